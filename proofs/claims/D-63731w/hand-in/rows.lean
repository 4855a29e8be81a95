section
-- ===== PART A: goes FIRST, ahead of the names: the tables' words, and 'selects' of the private methods out of them =====
/-- a private method of a class that the tables say can be made, by its rows of tables_1 -/
def lw_okq (q : MethodName × Nat) : Prop := (q.1.cls ≠ "java/lang/invoke/MethodHandle" ∧ q.1.cls ≠ "java/lang/invoke/VarHandle") ∧ Cond.instantiable q.1.cls q.2 ∈ tables_1 ∧ Cond.privateMethod q.1 ∈ tables_1 ∧ Cond.instanceMethod q.1 ∈ tables_1
theorem lw_p0 : lw_okq (⟨"TwinLog", "ship", "(II)V"⟩, 3) := ⟨⟨by decide +kernel, by decide +kernel⟩, List.mem_of_getElem? (i := 7) (by decide +kernel), List.mem_of_getElem? (i := 128) (by decide +kernel), List.mem_of_getElem? (i := 129) (by decide +kernel)⟩
theorem lw_p1 : lw_okq (⟨"TwinLog", "send", "(III)LTwinLog$Message;"⟩, 3) := ⟨⟨by decide +kernel, by decide +kernel⟩, List.mem_of_getElem? (i := 7) (by decide +kernel), List.mem_of_getElem? (i := 132) (by decide +kernel), List.mem_of_getElem? (i := 133) (by decide +kernel)⟩
theorem lw_p2 : lw_okq (⟨"TwinLog", "take", "(I)LTwinLog$Message;"⟩, 3) := ⟨⟨by decide +kernel, by decide +kernel⟩, List.mem_of_getElem? (i := 7) (by decide +kernel), List.mem_of_getElem? (i := 148) (by decide +kernel), List.mem_of_getElem? (i := 149) (by decide +kernel)⟩
theorem lw_p3 : lw_okq (⟨"TwinLog", "shipped", "(LTwinLog$Message;LTwinLog$Node;)I"⟩, 3) := ⟨⟨by decide +kernel, by decide +kernel⟩, List.mem_of_getElem? (i := 7) (by decide +kernel), List.mem_of_getElem? (i := 160) (by decide +kernel), List.mem_of_getElem? (i := 161) (by decide +kernel)⟩
theorem lw_p4 : lw_okq (⟨"TwinLog", "acked", "(LTwinLog$Message;LTwinLog$Node;)V"⟩, 3) := ⟨⟨by decide +kernel, by decide +kernel⟩, List.mem_of_getElem? (i := 7) (by decide +kernel), List.mem_of_getElem? (i := 168) (by decide +kernel), List.mem_of_getElem? (i := 169) (by decide +kernel)⟩
theorem lw_p5 : lw_okq (⟨"TwinLog", "wanted", "(LTwinLog$Message;LTwinLog$Node;)V"⟩, 3) := ⟨⟨by decide +kernel, by decide +kernel⟩, List.mem_of_getElem? (i := 7) (by decide +kernel), List.mem_of_getElem? (i := 175) (by decide +kernel), List.mem_of_getElem? (i := 176) (by decide +kernel)⟩
theorem lw_p6 : lw_okq (⟨"TwinLogModel", "putBehind", "(IIII)Z"⟩, 13) := ⟨⟨by decide +kernel, by decide +kernel⟩, List.mem_of_getElem? (i := 219) (by decide +kernel), List.mem_of_getElem? (i := 273) (by decide +kernel), List.mem_of_getElem? (i := 274) (by decide +kernel)⟩
theorem lw_p7 : lw_okq (⟨"TwinLogModel", "writes", "(I)Z"⟩, 13) := ⟨⟨by decide +kernel, by decide +kernel⟩, List.mem_of_getElem? (i := 219) (by decide +kernel), List.mem_of_getElem? (i := 277) (by decide +kernel), List.mem_of_getElem? (i := 278) (by decide +kernel)⟩
theorem lw_p8 : lw_okq (⟨"TwinLogModel", "send", "(III)V"⟩, 13) := ⟨⟨by decide +kernel, by decide +kernel⟩, List.mem_of_getElem? (i := 219) (by decide +kernel), List.mem_of_getElem? (i := 281) (by decide +kernel), List.mem_of_getElem? (i := 282) (by decide +kernel)⟩
theorem lw_p9 : lw_okq (⟨"TwinLogModel", "remove", "(I)V"⟩, 13) := ⟨⟨by decide +kernel, by decide +kernel⟩, List.mem_of_getElem? (i := 219) (by decide +kernel), List.mem_of_getElem? (i := 293) (by decide +kernel), List.mem_of_getElem? (i := 294) (by decide +kernel)⟩
theorem lw_p10 : lw_okq (⟨"TwinLogModel", "becomeTerm", "(II)Z"⟩, 13) := ⟨⟨by decide +kernel, by decide +kernel⟩, List.mem_of_getElem? (i := 219) (by decide +kernel), List.mem_of_getElem? (i := 297) (by decide +kernel), List.mem_of_getElem? (i := 298) (by decide +kernel)⟩
theorem lw_p11 : lw_okq (⟨"TwinLogModel", "shipped", "(II)V"⟩, 13) := ⟨⟨by decide +kernel, by decide +kernel⟩, List.mem_of_getElem? (i := 219) (by decide +kernel), List.mem_of_getElem? (i := 301) (by decide +kernel), List.mem_of_getElem? (i := 302) (by decide +kernel)⟩
theorem lw_p12 : lw_okq (⟨"TwinLogModel", "cutTo", "(II)Z"⟩, 13) := ⟨⟨by decide +kernel, by decide +kernel⟩, List.mem_of_getElem? (i := 219) (by decide +kernel), List.mem_of_getElem? (i := 305) (by decide +kernel), List.mem_of_getElem? (i := 306) (by decide +kernel)⟩
theorem lw_p13 : lw_okq (⟨"TwinLogModel", "shipIfThere", "(II)V"⟩, 13) := ⟨⟨by decide +kernel, by decide +kernel⟩, List.mem_of_getElem? (i := 219) (by decide +kernel), List.mem_of_getElem? (i := 309) (by decide +kernel), List.mem_of_getElem? (i := 310) (by decide +kernel)⟩
def lw_privs_1 : List (MethodName × Nat) := [(⟨"TwinLog", "ship", "(II)V"⟩, 3), (⟨"TwinLog", "send", "(III)LTwinLog$Message;"⟩, 3), (⟨"TwinLog", "take", "(I)LTwinLog$Message;"⟩, 3), (⟨"TwinLog", "shipped", "(LTwinLog$Message;LTwinLog$Node;)I"⟩, 3), (⟨"TwinLog", "acked", "(LTwinLog$Message;LTwinLog$Node;)V"⟩, 3), (⟨"TwinLog", "wanted", "(LTwinLog$Message;LTwinLog$Node;)V"⟩, 3), (⟨"TwinLogModel", "putBehind", "(IIII)Z"⟩, 13), (⟨"TwinLogModel", "writes", "(I)Z"⟩, 13), (⟨"TwinLogModel", "send", "(III)V"⟩, 13), (⟨"TwinLogModel", "remove", "(I)V"⟩, 13), (⟨"TwinLogModel", "becomeTerm", "(II)Z"⟩, 13), (⟨"TwinLogModel", "shipped", "(II)V"⟩, 13), (⟨"TwinLogModel", "cutTo", "(II)Z"⟩, 13), (⟨"TwinLogModel", "shipIfThere", "(II)V"⟩, 13)]
theorem lw_r1 : ∀ q ∈ lw_privs_1, lw_okq q := List.forall_mem_cons.mpr ⟨lw_p0, List.forall_mem_cons.mpr ⟨lw_p1, List.forall_mem_cons.mpr ⟨lw_p2, List.forall_mem_cons.mpr ⟨lw_p3, List.forall_mem_cons.mpr ⟨lw_p4, List.forall_mem_cons.mpr ⟨lw_p5, List.forall_mem_cons.mpr ⟨lw_p6, List.forall_mem_cons.mpr ⟨lw_p7, List.forall_mem_cons.mpr ⟨lw_p8, List.forall_mem_cons.mpr ⟨lw_p9, List.forall_mem_cons.mpr ⟨lw_p10, List.forall_mem_cons.mpr ⟨lw_p11, List.forall_mem_cons.mpr ⟨lw_p12, List.forall_mem_cons.mpr ⟨lw_p13, fun _ h => absurd h List.not_mem_nil⟩⟩⟩⟩⟩⟩⟩⟩⟩⟩⟩⟩⟩⟩
def lw_privs : List (MethodName × Nat) := lw_privs_1
def lw_tbl : List Cond := k2_sels lw_privs ++ tables_1
theorem lw_privs_ok : ∀ q ∈ lw_privs, lw_okq q := lw_r1
-- ===== end of PART A; then your names; then what follows =====
end
section
def R_T : String := "TwinLog"
def F_T : u_T := fun k => match k with
  | 0 => ("TwinLog", "nodes", "[LTwinLog$Node;", true)
  | 1 => ("TwinLog", "link", "[LTwinLog$Message;", true)
  | _ => ("TwinLog", "size", "I", false)
def ft_T : Nat → FieldType := fun k => match k with
  | 0 => .array (.object "TwinLog$Node")
  | 1 => .array (.object "TwinLog$Message")
  | _ => .int
def R_N : String := "TwinLog$Node"
def F_N : u_T := fun k => match k with
  | 0 => ("TwinLog$Node", "term", "I", false)
  | 1 => ("TwinLog$Node", "terms", "[I", true)
  | 2 => ("TwinLog$Node", "keys", "[I", true)
  | 3 => ("TwinLog$Node", "values", "[I", true)
  | 4 => ("TwinLog$Node", "length", "I", false)
  | 5 => ("TwinLog$Node", "up", "Z", false)
  | 6 => ("TwinLog$Node", "primary", "Z", false)
  | 7 => ("TwinLog$Node", "agreed", "I", false)
  | 8 => ("TwinLog$Node", "fuse", "I", false)
  | _ => ("TwinLog$Node", "writes", "I", false)
def ft_N : Nat → FieldType := fun k => match k with
  | 0 => .int
  | 1 => .array .int
  | 2 => .array .int
  | 3 => .array .int
  | 4 => .int
  | 5 => .boolean
  | 6 => .boolean
  | 7 => .int
  | 8 => .int
  | _ => .int
def R_G : String := "TwinLog$Message"
def F_G : u_T := fun k => match k with
  | 0 => ("TwinLog$Message", "kind", "I", false)
  | 1 => ("TwinLog$Message", "node", "I", false)
  | 2 => ("TwinLog$Message", "term", "I", false)
  | 3 => ("TwinLog$Message", "number", "I", false)
  | 4 => ("TwinLog$Message", "before", "I", false)
  | 5 => ("TwinLog$Message", "length", "I", false)
  | 6 => ("TwinLog$Message", "entryTerm", "I", false)
  | 7 => ("TwinLog$Message", "key", "I", false)
  | _ => ("TwinLog$Message", "value", "I", false)
def ft_G : Nat → FieldType := fun k => match k with
  | 0 => .int
  | 1 => .int
  | 2 => .int
  | 3 => .int
  | 4 => .int
  | 5 => .int
  | 6 => .int
  | 7 => .int
  | _ => .int
def R_D : String := "TwinLogModel"
def F_D : u_T := fun k => match k with
  | 0 => ("TwinLogModel", "terms", "[I", true)
  | 1 => ("TwinLogModel", "lengths", "[I", true)
  | 2 => ("TwinLogModel", "down", "[Z", true)
  | 3 => ("TwinLogModel", "primary", "[Z", true)
  | 4 => ("TwinLogModel", "agreed", "[I", true)
  | 5 => ("TwinLogModel", "fuses", "[I", true)
  | 6 => ("TwinLogModel", "writes", "[I", true)
  | 7 => ("TwinLogModel", "entryTerms", "[I", true)
  | 8 => ("TwinLogModel", "entryKeys", "[I", true)
  | 9 => ("TwinLogModel", "entryValues", "[I", true)
  | 10 => ("TwinLogModel", "messages", "[I", true)
  | 11 => ("TwinLogModel", "many", "I", false)
  | _ => ("TwinLogModel", "come", "[I", true)
def ft_D : Nat → FieldType := fun k => match k with
  | 0 => .array .int
  | 1 => .array .int
  | 2 => .array .boolean
  | 3 => .array .boolean
  | 4 => .array .int
  | 5 => .array .int
  | 6 => .array .int
  | 7 => .array .int
  | 8 => .array .int
  | 9 => .array .int
  | 10 => .array .int
  | 11 => .int
  | _ => .array .int
abbrev classes : List vw_C := [(R_T, F_T, 3), (R_N, F_N, 10), (R_G, F_G, 9), (R_D, F_D, 13)]
/-- the one list of words that every method is proved under -/
def BASE : List Cond := lw_tbl.filter goodWord
theorem mB {w : Cond} (i : Nat) (h : lw_tbl[i]? = some w) (hg : goodWord w = true) : w ∈ BASE := List.mem_filter.mpr ⟨List.mem_of_getElem? h, hg⟩
theorem gBB : ∀ w ∈ BASE, (w.onTables && w.keeps) = true ∨ ∃ ty, w = .arrayClass ty := fun _ h => good_of_word (List.mem_filter.mp h).2
theorem n_T : ∀ a, a < 3 → ∀ b, b < 3 → a ≠ b → (F_T a).2.1 ≠ (F_T b).2.1 := by decide +kernel
theorem ft_T_ok : ∀ k, k < 3 → parseFieldDescriptor (F_T k).2.2.1 = some (ft_T k) := by decide +kernel
theorem i_T : ∀ w ∈ u_ws R_T F_T 3, w ∈ BASE := List.forall_mem_cons.mpr ⟨mB 115 rfl rfl, List.forall_mem_cons.mpr ⟨mB 117 rfl rfl, List.forall_mem_cons.mpr ⟨mB 119 rfl rfl, fun _ h => absurd h List.not_mem_nil⟩⟩⟩
theorem n_N : ∀ a, a < 10 → ∀ b, b < 10 → a ≠ b → (F_N a).2.1 ≠ (F_N b).2.1 := by decide +kernel
theorem ft_N_ok : ∀ k, k < 10 → parseFieldDescriptor (F_N k).2.2.1 = some (ft_N k) := by decide +kernel
theorem i_N : ∀ w ∈ u_ws R_N F_N 10, w ∈ BASE := List.forall_mem_cons.mpr ⟨mB 55 rfl rfl, List.forall_mem_cons.mpr ⟨mB 57 rfl rfl, List.forall_mem_cons.mpr ⟨mB 59 rfl rfl, List.forall_mem_cons.mpr ⟨mB 61 rfl rfl, List.forall_mem_cons.mpr ⟨mB 63 rfl rfl, List.forall_mem_cons.mpr ⟨mB 65 rfl rfl, List.forall_mem_cons.mpr ⟨mB 67 rfl rfl, List.forall_mem_cons.mpr ⟨mB 69 rfl rfl, List.forall_mem_cons.mpr ⟨mB 71 rfl rfl, List.forall_mem_cons.mpr ⟨mB 73 rfl rfl, fun _ h => absurd h List.not_mem_nil⟩⟩⟩⟩⟩⟩⟩⟩⟩⟩
theorem n_G : ∀ a, a < 9 → ∀ b, b < 9 → a ≠ b → (F_G a).2.1 ≠ (F_G b).2.1 := by decide +kernel
theorem ft_G_ok : ∀ k, k < 9 → parseFieldDescriptor (F_G k).2.2.1 = some (ft_G k) := by decide +kernel
theorem i_G : ∀ w ∈ u_ws R_G F_G 9, w ∈ BASE := List.forall_mem_cons.mpr ⟨mB 93 rfl rfl, List.forall_mem_cons.mpr ⟨mB 95 rfl rfl, List.forall_mem_cons.mpr ⟨mB 97 rfl rfl, List.forall_mem_cons.mpr ⟨mB 99 rfl rfl, List.forall_mem_cons.mpr ⟨mB 101 rfl rfl, List.forall_mem_cons.mpr ⟨mB 103 rfl rfl, List.forall_mem_cons.mpr ⟨mB 105 rfl rfl, List.forall_mem_cons.mpr ⟨mB 107 rfl rfl, List.forall_mem_cons.mpr ⟨mB 109 rfl rfl, fun _ h => absurd h List.not_mem_nil⟩⟩⟩⟩⟩⟩⟩⟩⟩
theorem n_D : ∀ a, a < 13 → ∀ b, b < 13 → a ≠ b → (F_D a).2.1 ≠ (F_D b).2.1 := by decide +kernel
theorem ft_D_ok : ∀ k, k < 13 → parseFieldDescriptor (F_D k).2.2.1 = some (ft_D k) := by decide +kernel
theorem i_D : ∀ w ∈ u_ws R_D F_D 13, w ∈ BASE := List.forall_mem_cons.mpr ⟨mB 251 rfl rfl, List.forall_mem_cons.mpr ⟨mB 253 rfl rfl, List.forall_mem_cons.mpr ⟨mB 255 rfl rfl, List.forall_mem_cons.mpr ⟨mB 257 rfl rfl, List.forall_mem_cons.mpr ⟨mB 259 rfl rfl, List.forall_mem_cons.mpr ⟨mB 261 rfl rfl, List.forall_mem_cons.mpr ⟨mB 263 rfl rfl, List.forall_mem_cons.mpr ⟨mB 265 rfl rfl, List.forall_mem_cons.mpr ⟨mB 267 rfl rfl, List.forall_mem_cons.mpr ⟨mB 269 rfl rfl, List.forall_mem_cons.mpr ⟨mB 271 rfl rfl, List.forall_mem_cons.mpr ⟨mB 273 rfl rfl, List.forall_mem_cons.mpr ⟨mB 275 rfl rfl, fun _ h => absurd h List.not_mem_nil⟩⟩⟩⟩⟩⟩⟩⟩⟩⟩⟩⟩⟩
def nIx : Nat → Nat := fun k => match k with
  | 0 => 23
  | 1 => 59
  | 2 => 66
  | 3 => 72
  | 4 => 55
  | 5 => 82
  | 6 => 27
  | 7 => 114
  | 8 => 126
  | _ => 132
def gIx : Nat → Nat := fun k => match k with
  | 0 => 34
  | 1 => 37
  | 2 => 40
  | 3 => 41
  | 4 => 52
  | 5 => 58
  | 6 => 63
  | 7 => 69
  | _ => 75
def oIx : Nat → Nat := fun k => match k with
  | 0 => 47
  | 1 => 9
  | 2 => 15
  | 3 => 18
  | 4 => 44
  | 5 => 21
  | 6 => 38
  | 7 => 25
  | 8 => 29
  | _ => 35
def tIx : Nat → Nat := fun k => match k with
  | 0 => 10
  | 1 => 18
  | _ => 31
def dIx : Nat → Nat := fun k => match k with
  | 0 => 7
  | 1 => 13
  | 2 => 16
  | 3 => 20
  | 4 => 23
  | 5 => 26
  | 6 => 29
  | 7 => 32
  | 8 => 35
  | 9 => 38
  | 10 => 41
  | 11 => 50
  | _ => 44
theorem oIx_in : ∀ k, k < 10 → Cond.fieldLink R_N (oIx k) R_N (F_N k).2.1 (F_N k).2.2.1 ∈ BASE := by
  intro k hk
  match k, hk with
  | 0, _ => exact mB 36 rfl rfl
  | 1, _ => exact mB 37 rfl rfl
  | 2, _ => exact mB 39 rfl rfl
  | 3, _ => exact mB 41 rfl rfl
  | 4, _ => exact mB 43 rfl rfl
  | 5, _ => exact mB 45 rfl rfl
  | 6, _ => exact mB 48 rfl rfl
  | 7, _ => exact mB 49 rfl rfl
  | 8, _ => exact mB 51 rfl rfl
  | 9, _ => exact mB 53 rfl rfl
  | k + 10, h => exact absurd h (by omega)
theorem tIx_in : ∀ k, k < 3 → Cond.fieldLink R_T (tIx k) R_T (F_T k).2.1 (F_T k).2.2.1 ∈ BASE := by
  intro k hk
  match k, hk with
  | 0, _ => exact mB 112 rfl rfl
  | 1, _ => exact mB 113 rfl rfl
  | 2, _ => exact mB 114 rfl rfl
  | k + 3, h => exact absurd h (by omega)
theorem dIx_in : ∀ k, k < 13 → Cond.fieldLink R_D (dIx k) R_D (F_D k).2.1 (F_D k).2.2.1 ∈ BASE := by
  intro k hk
  match k, hk with
  | 0, _ => exact mB 238 rfl rfl
  | 1, _ => exact mB 239 rfl rfl
  | 2, _ => exact mB 240 rfl rfl
  | 3, _ => exact mB 241 rfl rfl
  | 4, _ => exact mB 242 rfl rfl
  | 5, _ => exact mB 243 rfl rfl
  | 6, _ => exact mB 244 rfl rfl
  | 7, _ => exact mB 245 rfl rfl
  | 8, _ => exact mB 246 rfl rfl
  | 9, _ => exact mB 247 rfl rfl
  | 10, _ => exact mB 248 rfl rfl
  | 11, _ => exact mB 249 rfl rfl
  | 12, _ => exact mB 250 rfl rfl
  | k + 13, h => exact absurd h (by omega)
def y_T_init : MethodName := ⟨"TwinLog", "<init>", "()V"⟩
abbrev b_T_init : ByteArray := prog_1_method_1_code
def y_T_isNode : MethodName := ⟨"TwinLog", "isNode", "(I)Z"⟩
abbrev b_T_isNode : ByteArray := prog_1_method_2_code
def y_T_send : MethodName := ⟨"TwinLog", "send", "(III)LTwinLog$Message;"⟩
abbrev b_T_send : ByteArray := prog_1_method_3_code
def y_T_ship : MethodName := ⟨"TwinLog", "ship", "(II)V"⟩
abbrev b_T_ship : ByteArray := prog_1_method_4_code
def y_T_put : MethodName := ⟨"TwinLog", "put", "(III)I"⟩
abbrev b_T_put : ByteArray := prog_1_method_5_code
def y_T_get : MethodName := ⟨"TwinLog", "get", "(II)I"⟩
abbrev b_T_get : ByteArray := prog_1_method_6_code
def y_T_take : MethodName := ⟨"TwinLog", "take", "(I)LTwinLog$Message;"⟩
abbrev b_T_take : ByteArray := prog_1_method_7_code
def y_T_drop : MethodName := ⟨"TwinLog", "drop", "(I)Z"⟩
abbrev b_T_drop : ByteArray := prog_1_method_8_code
def y_T_pump : MethodName := ⟨"TwinLog", "pump", "()I"⟩
abbrev b_T_pump : ByteArray := prog_1_method_9_code
def y_T_shipped : MethodName := ⟨"TwinLog", "shipped", "(LTwinLog$Message;LTwinLog$Node;)I"⟩
abbrev b_T_shipped : ByteArray := prog_1_method_10_code
def y_T_acked : MethodName := ⟨"TwinLog", "acked", "(LTwinLog$Message;LTwinLog$Node;)V"⟩
abbrev b_T_acked : ByteArray := prog_1_method_11_code
def y_T_wanted : MethodName := ⟨"TwinLog", "wanted", "(LTwinLog$Message;LTwinLog$Node;)V"⟩
abbrev b_T_wanted : ByteArray := prog_1_method_12_code
def y_T_fuse : MethodName := ⟨"TwinLog", "fuse", "(II)I"⟩
abbrev b_T_fuse : ByteArray := prog_1_method_13_code
def y_T_crash : MethodName := ⟨"TwinLog", "crash", "(I)I"⟩
abbrev b_T_crash : ByteArray := prog_1_method_14_code
def y_T_recover : MethodName := ⟨"TwinLog", "recover", "(I)I"⟩
abbrev b_T_recover : ByteArray := prog_1_method_15_code
def y_T_promote : MethodName := ⟨"TwinLog", "promote", "(I)I"⟩
abbrev b_T_promote : ByteArray := prog_1_method_16_code
def y_T_rejoin : MethodName := ⟨"TwinLog", "rejoin", "(I)I"⟩
abbrev b_T_rejoin : ByteArray := prog_1_method_17_code
def y_T_told : MethodName := ⟨"TwinLog", "told", "(II)I"⟩
abbrev b_T_told : ByteArray := prog_1_method_18_code
def y_T_entry : MethodName := ⟨"TwinLog", "entry", "(III)I"⟩
abbrev b_T_entry : ByteArray := prog_1_method_19_code
def y_T_message : MethodName := ⟨"TwinLog", "message", "(II)I"⟩
abbrev b_T_message : ByteArray := prog_1_method_20_code
def y_T_same : MethodName := ⟨"TwinLog", "same", "()I"⟩
abbrev b_T_same : ByteArray := prog_1_method_21_code
def y_D_init : MethodName := ⟨"TwinLogModel", "<init>", "()V"⟩
abbrev b_D_init : ByteArray := prog_5_method_1_code
def y_D_isNode : MethodName := ⟨"TwinLogModel", "isNode", "(I)Z"⟩
abbrev b_D_isNode : ByteArray := prog_5_method_2_code
def y_D_writes : MethodName := ⟨"TwinLogModel", "writes", "(I)Z"⟩
abbrev b_D_writes : ByteArray := prog_5_method_3_code
def y_D_putBehind : MethodName := ⟨"TwinLogModel", "putBehind", "(IIII)Z"⟩
abbrev b_D_putBehind : ByteArray := prog_5_method_4_code
def y_D_cutTo : MethodName := ⟨"TwinLogModel", "cutTo", "(II)Z"⟩
abbrev b_D_cutTo : ByteArray := prog_5_method_5_code
def y_D_becomeTerm : MethodName := ⟨"TwinLogModel", "becomeTerm", "(II)Z"⟩
abbrev b_D_becomeTerm : ByteArray := prog_5_method_6_code
def y_D_send : MethodName := ⟨"TwinLogModel", "send", "(III)V"⟩
abbrev b_D_send : ByteArray := prog_5_method_7_code
def y_D_remove : MethodName := ⟨"TwinLogModel", "remove", "(I)V"⟩
abbrev b_D_remove : ByteArray := prog_5_method_8_code
def y_D_put : MethodName := ⟨"TwinLogModel", "put", "(III)I"⟩
abbrev b_D_put : ByteArray := prog_5_method_9_code
def y_D_get : MethodName := ⟨"TwinLogModel", "get", "(II)I"⟩
abbrev b_D_get : ByteArray := prog_5_method_10_code
def y_D_pump : MethodName := ⟨"TwinLogModel", "pump", "()I"⟩
abbrev b_D_pump : ByteArray := prog_5_method_11_code
def y_D_shipIfThere : MethodName := ⟨"TwinLogModel", "shipIfThere", "(II)V"⟩
abbrev b_D_shipIfThere : ByteArray := prog_5_method_12_code
def y_D_shipped : MethodName := ⟨"TwinLogModel", "shipped", "(II)V"⟩
abbrev b_D_shipped : ByteArray := prog_5_method_13_code
def y_D_drop : MethodName := ⟨"TwinLogModel", "drop", "(I)Z"⟩
abbrev b_D_drop : ByteArray := prog_5_method_14_code
def y_D_fuse : MethodName := ⟨"TwinLogModel", "fuse", "(II)I"⟩
abbrev b_D_fuse : ByteArray := prog_5_method_15_code
def y_D_crash : MethodName := ⟨"TwinLogModel", "crash", "(I)I"⟩
abbrev b_D_crash : ByteArray := prog_5_method_16_code
def y_D_recover : MethodName := ⟨"TwinLogModel", "recover", "(I)I"⟩
abbrev b_D_recover : ByteArray := prog_5_method_17_code
def y_D_promote : MethodName := ⟨"TwinLogModel", "promote", "(I)I"⟩
abbrev b_D_promote : ByteArray := prog_5_method_18_code
def y_D_rejoin : MethodName := ⟨"TwinLogModel", "rejoin", "(I)I"⟩
abbrev b_D_rejoin : ByteArray := prog_5_method_19_code
def y_D_told : MethodName := ⟨"TwinLogModel", "told", "(II)I"⟩
abbrev b_D_told : ByteArray := prog_5_method_20_code
def y_D_entry : MethodName := ⟨"TwinLogModel", "entry", "(III)I"⟩
abbrev b_D_entry : ByteArray := prog_5_method_21_code
def y_D_message : MethodName := ⟨"TwinLogModel", "message", "(II)I"⟩
abbrev b_D_message : ByteArray := prog_5_method_22_code
def y_D_same : MethodName := ⟨"TwinLogModel", "same", "()I"⟩
abbrev b_D_same : ByteArray := prog_5_method_23_code
def y_G_init : MethodName := ⟨"TwinLog$Message", "<init>", "()V"⟩
abbrev b_G_init : ByteArray := prog_2_method_1_code
def y_N_init : MethodName := ⟨"TwinLog$Node", "<init>", "()V"⟩
abbrev b_N_init : ByteArray := prog_3_method_1_code
def y_N_writes : MethodName := ⟨"TwinLog$Node", "writes", "()Z"⟩
abbrev b_N_writes : ByteArray := prog_3_method_2_code
def y_N_goDown : MethodName := ⟨"TwinLog$Node", "goDown", "()V"⟩
abbrev b_N_goDown : ByteArray := prog_3_method_3_code
def y_N_add : MethodName := ⟨"TwinLog$Node", "add", "(III)Z"⟩
abbrev b_N_add : ByteArray := prog_3_method_4_code
def y_N_cut : MethodName := ⟨"TwinLog$Node", "cut", "(I)Z"⟩
abbrev b_N_cut : ByteArray := prog_3_method_5_code
def y_N_becomes : MethodName := ⟨"TwinLog$Node", "becomes", "(I)Z"⟩
abbrev b_N_becomes : ByteArray := prog_3_method_6_code
def y_N_termOf : MethodName := ⟨"TwinLog$Node", "termOf", "(I)I"⟩
abbrev b_N_termOf : ByteArray := prog_3_method_7_code
end
section
/-! ===== my own layer: worlds given by a function, bundles, calls ===== -/
def mw (N : Nat) (f : Nat → Nat × va_E) : va_W := (List.range N).map f
theorem mw_at {N : Nat} {f : Nat → Nat × va_E} {j : Nat} (h : j < N) : (mw N f)[j]? = some (f j) := by
  simp [mw, h]
theorem mw_atE {N : Nat} {f : Nat → Nat × va_E} {j : Nat} {q : Nat × va_E} (h : j < N) (e : f j = q) : (mw N f)[j]? = some q := by
  rw [mw_at h, e]
theorem mw_set {N : Nat} {f g : Nat → Nat × va_E} {j : Nat} {q : Nat × va_E} (e : g j = q) (h : ∀ i, i < N → i ≠ j → g i = f i) : (mw N f).set j q = mw N g := by
  apply List.ext_getElem?
  intro i
  rw [List.getElem?_set]
  by_cases hi : i < N
  · by_cases hj : j = i
    · subst hj
      simp [mw, hi, e]
    · rw [if_neg hj, mw_at hi, mw_at hi, h i hi (fun q => hj q.symm)]
  · have h1 : (mw N f)[i]? = none := by simp [mw]; omega
    have h2 : (mw N g)[i]? = none := by simp [mw]; omega
    have h3 : (mw N f).length = N := by simp [mw]
    rw [h1, h2, h3]
    by_cases hj : j = i
    · rw [if_pos hj, if_neg (by omega)]
    · rw [if_neg hj]
/-- the links of nest mates: TwinLog to its Node's and its Message's fields -/
def Nst (U : State) : Prop := (∀ k, k < 10 → va_Nw (.fieldLinkNest R_T (nIx k) R_N (F_N k).2.1 (F_N k).2.2.1 R_T) U) ∧ ∀ k, k < 9 → va_Nw (.fieldLinkNest R_T (gIx k) R_G (F_G k).2.1 (F_G k).2.2.1 R_T) U
theorem Nst.warm {s U : State} (hW : s.WarmedH U.vm) (h : Nst s) : Nst U := ⟨fun k hk => va_Nw.warmF hW (h.1 k hk), fun k hk => va_Nw.warmF hW (h.2 k hk)⟩
theorem Nst.same {u U : State} (hv : u.vm = U.vm) (h : Nst u) : Nst U := ⟨fun k hk => va_Nw.same rfl hv (h.1 k hk), fun k hk => va_Nw.same rfl hv (h.2 k hk)⟩
def In (D : va_G) (A : Nat → Prop) (H0 : Heap) (ws : va_W) (H : Heap) (locs : List Loc) : Prop := va_P D classes ws H ∧ va_D A ws ∧ va_S A H0 H locs
def Kx (D : va_G) (tys : List (ClassId × FieldType)) (U : State) : Prop := va_K D classes tys U ∧ Nst U
def Cx (p : Program) (m : MethodId) (c : Code) (cc : ByteArray) (nL : Nat) (s : State) (args : Array Value) (own : String) (D : va_G) (tys : List (ClassId × FieldType)) : Prop := CallFix p m c cc nL s args BASE own ∧ Kx D tys s
def Pre (D : va_G) (tys : List (ClassId × FieldType)) (A : Nat → Prop) (ws : va_W) (U : State) : Prop := va_P D classes ws U.heap ∧ Kx D tys U ∧ va_D A ws
def Pst {S : Type} (D : va_G) (A : Nat → Prop) (wf : S → va_W) (u : S) (t : State) : Prop := va_P D classes (wf u) t.heap ∧ va_D A (wf u)
def rmK (k : Nat) : Room := { frames := k, cells := 0, slots := 0, locals := 25 * k }
theorem Pre.blind {D : va_G} {tys : List (ClassId × FieldType)} {A : Nat → Prop} {ws : va_W} {av : List Value} : FrameBlind (va_Pc av (Pre D tys A ws)) := fun a U g mk q => by
  obtain ⟨q0, qP, qK, qD⟩ := q
  exact ⟨q0, qP, ⟨va_K.moved (u := U) (U := U.calling g mk a) (Vm.Alike.refl U.vm) qK.1, Nst.same (u := U) (U := U.calling g mk a) rfl qK.2⟩, qD⟩
theorem Pre.warm {D : va_G} {tys : List (ClassId × FieldType)} {A : Nat → Prop} {ws : va_W} {av : List Value} {s U : State} {H : Heap} (hP : va_P D classes ws H) (hK : Kx D tys s) (hD : va_D A ws) (hU : U.heap = H) (hW : s.WarmedH U.vm) : va_Pc av (Pre D tys A ws) av.toArray U :=
  ⟨rfl, by rw [hU]; exact hP, ⟨va_K.moved hW.alike hK.1, hK.2.warm hW⟩, hD⟩
section LY
variable {p : Program} {l : Launch} {e : Env} {R : Room} {s : State} {m : MethodId} {args : Array Value} {below : List Frame} {meth : Method} {c : Code} {H H0 : Heap} {locs : List Loc} {cells slots : Nat} {Q : State → Prop}
variable {cc : ByteArray} {pc nL : Nat} {ls : Array Slot} {rest st0 : List Value} {D : va_G} {A : Nat → Prop} {tys : List (ClassId × FieldType)} {ws : va_W} {own : String}
theorem Cx.x (X : Cx p m c cc nL s args own D tys) : p.tables.exec = Jvm.exec := X.1.1
theorem Cx.b (X : Cx p m c cc nL s args own D tys) : c.code = cc := X.1.2.1
/-- what a call of an instance method needs of the words -/
def cV (own : String) (idx : Nat) (C : String) (y : MethodName) (bytes : ByteArray) (mL : Nat) (ret : Option FieldType) (n : Nat) : Prop :=
  Cond.methodLink own idx y ∈ BASE ∧ Cond.instanceMethod y ∈ BASE ∧ Cond.selects C y y ∈ BASE ∧ Cond.initialized C ∈ BASE ∧ Cond.code y bytes mL ret ∈ BASE ∧
  (y.cls = C ∧ y.cls ≠ "java/lang/invoke/MethodHandle" ∧ y.cls ≠ "java/lang/invoke/VarHandle" ∧ (parseMethodDescriptor y.desc).map (fun d => d.parameters.length) = some n)
theorem cV.good {own : String} {idx : Nat} {C : String} {y : MethodName} {bytes : ByteArray} {mL : Nat} {ret : Option FieldType} {n : Nat} (h : cV own idx C y bytes mL ret n) : GoodIn BASE (wsV own idx C y (Cond.code y bytes mL ret :: BASE)) := by
  obtain ⟨h1, h2, h3, h4, h5, -⟩ := h
  intro w hw
  simp only [wsV, List.cons_append, List.nil_append, List.mem_cons] at hw
  rcases hw with rfl | rfl | rfl | rfl | rfl | hw
  · exact ⟨h1, gBB _ h1⟩
  · exact ⟨h2, gBB _ h2⟩
  · exact ⟨h3, gBB _ h3⟩
  · exact ⟨h4, gBB _ h4⟩
  · exact ⟨h5, gBB _ h5⟩
  · exact ⟨hw, gBB _ hw⟩
def cS (own : String) (idx : Nat) (y : MethodName) (bytes : ByteArray) (mL : Nat) (ret : Option FieldType) (n : Nat) : Prop :=
  Cond.methodLink own idx y ∈ BASE ∧ Cond.static y ∈ BASE ∧ Cond.initialized own ∈ BASE ∧ Cond.code y bytes mL ret ∈ BASE ∧
  (y.cls = own ∧ y.cls ≠ "java/lang/invoke/MethodHandle" ∧ y.cls ≠ "java/lang/invoke/VarHandle" ∧ (parseMethodDescriptor y.desc).map (fun d => d.parameters.length) = some n)
theorem cS.good {own : String} {idx : Nat} {y : MethodName} {bytes : ByteArray} {mL : Nat} {ret : Option FieldType} {n : Nat} (h : cS own idx y bytes mL ret n) : GoodIn BASE (wsS own idx y (Cond.code y bytes mL ret :: BASE)) := by
  obtain ⟨h1, h2, h3, h5, -⟩ := h
  intro w hw
  simp only [wsS, List.cons_append, List.nil_append, List.mem_cons] at hw
  rcases hw with rfl | rfl | rfl | rfl | hw
  · exact ⟨h1, gBB _ h1⟩
  · exact ⟨h2, gBB _ h2⟩
  · exact ⟨h3, gBB _ h3⟩
  · exact ⟨h5, gBB _ h5⟩
  · exact ⟨hw, gBB _ hw⟩
theorem runV {y : MethodName} {bytes : ByteArray} {mL k idx n : Nat} {ret : Option FieldType} {C : String} {Qc : Array Value → State → Outcome → State → Prop} {b : Nat} {fs : List Value} {T : u_T} {N : Nat}
    (X : Cx p m c cc nL s args own D tys) (I : In D A H0 ws H locs) (As : List Value)
    (hM : Met l y (Cond.code y bytes mL ret :: BASE) (rmK k) (va_Pc (.ref b :: As) (Pre D tys A ws)) Qc 0 0 A)
    (kw : cV own idx C y bytes mL ret n) (q0 ci : Nat) (he : ws[q0]? = some (b, .inr (ci, fs))) (hc : classes[ci]? = some (C, T, N)) (hn : As.length = n) {lv : List (Nat × Value)} (hl : lv_has ls nL lv)
    (hst : st0 = As.reverse ++ .ref b :: rest) (hrm : k + 1 ≤ R.frames ∧ 8 + (mL + 11) + 25 * k ≤ R.locals) (hroom : (rest.map fun v => v.category).sum ≤ 8) (hcs : cells ≤ R.cells ∧ slots ≤ R.slots) (hdg : decode cc pc = .ok (.invokevirtual idx, 3)) :
    va_Run p l e R s m args below meth c H locs cells slots 0 0 (F0 m pc ls st0) rest (Qc (Value.ref b :: As).toArray) A := by
  obtain ⟨S, hK⟩ := X
  obtain ⟨hP, hD, hS⟩ := I
  exact va_runV S hM (cwV n S.2.2.2.2 kw.good rfl rfl rfl kw.2.2.2.2.2 hrm) ⟨Pre.blind, va_recv hK.1 hP hc he, fun U hU hW => Pre.warm hP hK hD hU hW⟩ rfl hn hl.1 hst (lv_room hroom) hdg hcs
theorem runS {y : MethodName} {bytes : ByteArray} {mL k idx n : Nat} {ret : Option FieldType} {Qc : Array Value → State → Outcome → State → Prop}
    (X : Cx p m c cc nL s args own D tys) (I : In D A H0 ws H locs) (As : List Value)
    (hM : Met l y (Cond.code y bytes mL ret :: BASE) (rmK k) (va_Pc As (Pre D tys A ws)) Qc 0 0 A)
    (kw : cS own idx y bytes mL ret n) (hn : As.length = n) {lv : List (Nat × Value)} (hl : lv_has ls nL lv)
    (hst : st0 = As.reverse ++ rest) (hrm : k + 1 ≤ R.frames ∧ 8 + (mL + 11) + 25 * k ≤ R.locals) (hroom : (rest.map fun v => v.category).sum ≤ 8) (hcs : cells ≤ R.cells ∧ slots ≤ R.slots) (hdg : decode cc pc = .ok (.invokestatic idx, 3)) :
    va_Run p l e R s m args below meth c H locs cells slots 0 0 (F0 m pc ls st0) rest (Qc As.toArray) A := by
  obtain ⟨S, hK⟩ := X
  obtain ⟨hP, hD, hS⟩ := I
  exact va_runS S hM (cwS n S.2.2.2.2 kw.good rfl rfl rfl kw.2.2.2.2 hrm) ⟨Pre.blind, fun U hU hW => Pre.warm hP hK hD hU hW⟩ rfl hn hl.1 hst (lv_room hroom) hdg hcs
theorem goI {S : Type} {post : Int32 → S → Prop} {wf : S → va_W} {a : Array Value} (I : In D A H0 ws H locs) (hr : va_Run p l e R s m args below meth c H locs cells slots 0 0 (F0 m pc ls st0) rest (va_Qi post (Pst D A wf) A a) A)
    (kk : ∀ (r : Int32) (u : S) (H1 : Heap) (locs1 : List Loc), post r u → In D A H0 (wf u) H1 locs1 → W p l e R s m args below meth c H1 locs1 cells slots Q (F0 m (pc + 3) ls (.int r :: rest))) : W p l e R s m args below meth c H locs cells slots Q (F0 m pc ls st0) :=
  va_calli hr I.2.2 (fun _ _ h => h) (fun _ h => h) (fun r u t H1 locs1 ht _ hw hB _ _ hS => kk r u H1 locs1 hw ⟨by rw [← ht]; exact hB.1, hB.2, hS⟩)
theorem goV {S : Type} {post : S → Prop} {wf : S → va_W} {a : Array Value} (I : In D A H0 ws H locs) (hr : va_Run p l e R s m args below meth c H locs cells slots 0 0 (F0 m pc ls st0) rest (va_Qv post (Pst D A wf) A a) A)
    (kk : ∀ (u : S) (H1 : Heap) (locs1 : List Loc), post u → In D A H0 (wf u) H1 locs1 → W p l e R s m args below meth c H1 locs1 cells slots Q (F0 m (pc + 3) ls rest)) : W p l e R s m args below meth c H locs cells slots Q (F0 m pc ls st0) :=
  va_callv hr I.2.2 (fun _ _ h => h) (fun _ h => h) (fun u t H1 locs1 ht _ hw hB _ _ hS => kk u H1 locs1 hw ⟨by rw [← ht]; exact hB.1, hB.2, hS⟩)
theorem goQ {S : Type} {post : Option Nat → S → Prop} {wf : S → va_W} {a : Array Value} (I : In D A H0 ws H locs) (hr : va_Run p l e R s m args below meth c H locs cells slots 0 0 (F0 m pc ls st0) rest (va_Qq post (Pst D A wf) A a) A)
    (kk : ∀ (r : Option Nat) (u : S) (H1 : Heap) (locs1 : List Loc), post r u → In D A H0 (wf u) H1 locs1 → W p l e R s m args below meth c H1 locs1 cells slots Q (F0 m (pc + 3) ls (va_rf r :: rest))) : W p l e R s m args below meth c H locs cells slots Q (F0 m pc ls st0) :=
  va_callq hr I.2.2 (fun _ _ h => h) (fun _ h => h) (fun r u t H1 locs1 ht _ hw hB _ _ hS => kk r u H1 locs1 hw ⟨by rw [← ht]; exact hB.1, hB.2, hS⟩)
/-! fields and arrays of a world that is given by a function -/
variable {NW : Nat} {cf : Nat → Nat × va_E}
theorem gfGet {C ref : String} {T : u_T} {N ci idx : Nat} {a : Nat} {fs : List Value} {v : Value} (X : Cx p m c cc nL s args own D tys) (I : In D A H0 (mw NW cf) H locs) (hin : ∀ w ∈ u_ws C T N, w ∈ BASE) (hc : classes[ci]? = some (C, T, N)) (j k : Nat) (hj : j < NW) (he : cf j = (a, .inr (ci, fs))) (hk : k < N) (hlink : Cond.fieldLink own idx (T k).1 (T k).2.1 (T k).2.2.1 ∈ BASE) (hv : fs[k]? = some v) (hdg : decode cc pc = .ok (.getfield idx, 3))
    (kk : W p l e R s m args below meth c H locs cells slots Q (F0 m (pc + 3) ls (v :: rest))) : W p l e R s m args below meth c H locs cells slots Q (F0 m pc ls (.ref a :: rest)) :=
  va_get X.1.1 X.1.2.1 X.1.2.2.2.2 hin X.1.2.2.2.1 X.2.1 I.1 j (mw_atE hj he) hc k hk (X.1.2.2.2.2 _ hlink) (fun _ h9 => h9) hv hdg kk
theorem gfGetN {C ref host : String} {T : u_T} {N ci idx : Nat} {a : Nat} {fs : List Value} {v : Value} (X : Cx p m c cc nL s args own D tys) (I : In D A H0 (mw NW cf) H locs) (hin : ∀ w ∈ u_ws C T N, w ∈ BASE) (hc : classes[ci]? = some (C, T, N)) (j k : Nat) (hj : j < NW) (he : cf j = (a, .inr (ci, fs))) (hk : k < N) (hlink : va_Nw (.fieldLinkNest own idx (T k).1 (T k).2.1 (T k).2.2.1 host) s) (hv : fs[k]? = some v) (hdg : decode cc pc = .ok (.getfield idx, 3))
    (kk : W p l e R s m args below meth c H locs cells slots Q (F0 m (pc + 3) ls (v :: rest))) : W p l e R s m args below meth c H locs cells slots Q (F0 m pc ls (.ref a :: rest)) :=
  va_getN X.1.1 X.1.2.1 X.1.2.2.2.2 hin X.1.2.2.2.1 X.2.1 I.1 j (mw_atE hj he) hc k hk (va_Nw.use rfl hlink) (fun _ h9 => h9) hv hdg kk
theorem gfPut {C : String} {T : u_T} {N ci idx : Nat} {a : Nat} {fs : List Value} {v : Value} (X : Cx p m c cc nL s args own D tys) (I : In D A H0 (mw NW cf) H locs) (hin : ∀ w ∈ u_ws C T N, w ∈ BASE) {ty0 : Nat → FieldType} (hty : ∀ k, k < N → parseFieldDescriptor (T k).2.2.1 = some (ty0 k)) (hnm : ∀ a, a < N → ∀ b, b < N → a ≠ b → (T a).2.1 ≠ (T b).2.1) (hc : classes[ci]? = some (C, T, N)) (j k : Nat) (hj : j < NW) (he : cf j = (a, .inr (ci, fs))) (hk : k < N) (hlink : Cond.fieldLink own idx (T k).1 (T k).2.1 (T k).2.2.1 ∈ BASE) (hfin : (T k).2.2.2 = false) (hn : narrow (ty0 k) v = v) (hfit : fits (ty0 k) v = true) (hl : k < fs.length)
    (cg : Nat → Nat × va_E) (hg : cg j = (a, .inr (ci, fs.set k v))) (ho : ∀ i, i < NW → i ≠ j → cg i = cf i) (hdg : decode cc pc = .ok (.putfield idx, 3))
    (kk : ∀ (H1 : Heap) (locs1 : List Loc), In D A H0 (mw NW cg) H1 locs1 → W p l e R s m args below meth c H1 locs1 cells slots Q (F0 m (pc + 3) ls rest)) : W p l e R s m args below meth c H locs cells slots Q (F0 m pc ls (v :: .ref a :: rest)) :=
  va_put X.1.1 X.1.2.1 X.1.2.2.2.2 hin ty0 hty hnm X.1.2.2.2.1 X.2.1 I.1 I.2.1 I.2.2 j (mw_atE hj he) hc k hk (X.1.2.2.2.2 _ hlink) (fun _ h9 => h9) hfin (hty k hk) hn hfit hl hdg (fun H1 locs1 h1 h2 h3 => kk H1 locs1 (by rw [mw_set hg ho] at h1 h2; exact ⟨h1, h2, h3⟩))
theorem gfPutN {C host : String} {T : u_T} {N ci idx : Nat} {a : Nat} {fs : List Value} {v : Value} (X : Cx p m c cc nL s args own D tys) (I : In D A H0 (mw NW cf) H locs) (hin : ∀ w ∈ u_ws C T N, w ∈ BASE) {ty0 : Nat → FieldType} (hty : ∀ k, k < N → parseFieldDescriptor (T k).2.2.1 = some (ty0 k)) (hnm : ∀ a, a < N → ∀ b, b < N → a ≠ b → (T a).2.1 ≠ (T b).2.1) (hc : classes[ci]? = some (C, T, N)) (j k : Nat) (hj : j < NW) (he : cf j = (a, .inr (ci, fs))) (hk : k < N) (hlink : va_Nw (.fieldLinkNest own idx (T k).1 (T k).2.1 (T k).2.2.1 host) s) (hfin : (T k).2.2.2 = false) (hn : narrow (ty0 k) v = v) (hfit : fits (ty0 k) v = true) (hl : k < fs.length)
    (cg : Nat → Nat × va_E) (hg : cg j = (a, .inr (ci, fs.set k v))) (ho : ∀ i, i < NW → i ≠ j → cg i = cf i) (hdg : decode cc pc = .ok (.putfield idx, 3))
    (kk : ∀ (H1 : Heap) (locs1 : List Loc), In D A H0 (mw NW cg) H1 locs1 → W p l e R s m args below meth c H1 locs1 cells slots Q (F0 m (pc + 3) ls rest)) : W p l e R s m args below meth c H locs cells slots Q (F0 m pc ls (v :: .ref a :: rest)) :=
  va_putN X.1.1 X.1.2.1 X.1.2.2.2.2 hin ty0 hty hnm X.1.2.2.2.1 X.2.1 I.1 I.2.1 I.2.2 j (mw_atE hj he) hc k hk (va_Nw.use rfl hlink) (fun _ h9 => h9) hfin (hty k hk) hn hfit hl hdg (fun H1 locs1 h1 h2 h3 => kk H1 locs1 (by rw [mw_set hg ho] at h1 h2; exact ⟨h1, h2, h3⟩))
theorem gIald {a N : Nat} {cA : ClassId} {f : Nat → Int32} {i : Int32} (X : Cx p m c cc nL s args own D tys) (I : In D A H0 (mw NW cf) H locs) (j t0 : Nat) (hj : j < NW) (he : cf j = (a, .inl (cA, N, .inl f))) (ht : tys[t0]? = some (cA, .int)) (hin : vp_in i N) (hdg : decode cc pc = .ok (.iaload, 1))
    (kk : W p l e R s m args below meth c H locs cells slots Q (F0 m (pc + 1) ls (.int (f i.toNatClampNeg) :: rest))) : W p l e R s m args below meth c H locs cells slots Q (F0 m pc ls (.int i :: .ref a :: rest)) :=
  va_iald X.1.1 X.1.2.1 X.2.1 I.1 j t0 (mw_atE hj he) ht hin hdg kk
theorem gZald {a N : Nat} {cA : ClassId} {f : Nat → Int32} {i : Int32} (X : Cx p m c cc nL s args own D tys) (I : In D A H0 (mw NW cf) H locs) (j t0 : Nat) (hj : j < NW) (he : cf j = (a, .inl (cA, N, .inl f))) (ht : tys[t0]? = some (cA, .boolean)) (hin : vp_in i N) (hdg : decode cc pc = .ok (.baload, 1))
    (kk : W p l e R s m args below meth c H locs cells slots Q (F0 m (pc + 1) ls (.int (f i.toNatClampNeg) :: rest))) : W p l e R s m args below meth c H locs cells slots Q (F0 m pc ls (.int i :: .ref a :: rest)) :=
  va_zald X.1.1 X.1.2.1 X.2.1 I.1 j t0 (mw_atE hj he) ht hin hdg kk
theorem gIast {a N : Nat} {cA : ClassId} {f : Nat → Int32} {i x : Int32} (X : Cx p m c cc nL s args own D tys) (I : In D A H0 (mw NW cf) H locs) (j t0 : Nat) (hj : j < NW) (he : cf j = (a, .inl (cA, N, .inl f))) (ht : tys[t0]? = some (cA, .int)) (hin : vp_in i N)
    (cg : Nat → Nat × va_E) (hg : cg j = (a, .inl (cA, N, .inl (upd f i.toNatClampNeg x)))) (ho : ∀ i, i < NW → i ≠ j → cg i = cf i) (hdg : decode cc pc = .ok (.iastore, 1))
    (kk : ∀ (H1 : Heap) (locs1 : List Loc), In D A H0 (mw NW cg) H1 locs1 → W p l e R s m args below meth c H1 locs1 cells slots Q (F0 m (pc + 1) ls rest)) : W p l e R s m args below meth c H locs cells slots Q (F0 m pc ls (.int x :: .int i :: .ref a :: rest)) :=
  va_iast X.1.1 X.1.2.1 X.2.1 I.1 I.2.1 I.2.2 j t0 (mw_atE hj he) ht hin hdg (fun H1 locs1 h1 h2 h3 => kk H1 locs1 (by rw [mw_set hg ho] at h1 h2; exact ⟨h1, h2, h3⟩))
theorem gZast {a N : Nat} {cA : ClassId} {f : Nat → Int32} {i x : Int32} (X : Cx p m c cc nL s args own D tys) (I : In D A H0 (mw NW cf) H locs) (j t0 : Nat) (hj : j < NW) (he : cf j = (a, .inl (cA, N, .inl f))) (ht : tys[t0]? = some (cA, .boolean)) (hin : vp_in i N) (hx : vp_nar .boolean x = x)
    (cg : Nat → Nat × va_E) (hg : cg j = (a, .inl (cA, N, .inl (upd f i.toNatClampNeg x)))) (ho : ∀ i, i < NW → i ≠ j → cg i = cf i) (hdg : decode cc pc = .ok (.bastore, 1))
    (kk : ∀ (H1 : Heap) (locs1 : List Loc), In D A H0 (mw NW cg) H1 locs1 → W p l e R s m args below meth c H1 locs1 cells slots Q (F0 m (pc + 1) ls rest)) : W p l e R s m args below meth c H locs cells slots Q (F0 m pc ls (.int x :: .int i :: .ref a :: rest)) :=
  va_zast X.1.1 X.1.2.1 X.2.1 I.1 I.2.1 I.2.2 j t0 (mw_atE hj he) ht hin hdg (fun H1 locs1 h1 h2 h3 => kk H1 locs1 (by rw [hx, mw_set hg ho] at h1 h2; exact ⟨h1, h2, h3⟩))
theorem gAald {a N : Nat} {cA : ClassId} {C : String} {f : Nat → Option Nat} {i : Int32} {v : Nat} (X : Cx p m c cc nL s args own D tys) (I : In D A H0 (mw NW cf) H locs) (j t0 : Nat) (hj : j < NW) (he : cf j = (a, .inl (cA, N, .inr (.inr (.inr (.inr f)))))) (ht : tys[t0]? = some (cA, .object C)) (hin : vp_in i N) (hv : f i.toNatClampNeg = some v) (hdg : decode cc pc = .ok (.aaload, 1))
    (kk : W p l e R s m args below meth c H locs cells slots Q (F0 m (pc + 1) ls (.ref v :: rest))) : W p l e R s m args below meth c H locs cells slots Q (F0 m pc ls (.int i :: .ref a :: rest)) :=
  va_aldq X.1.1 X.1.2.1 X.2.1 I.1 j t0 (mw_atE hj he) ht hin hdg (by rw [hv]; exact kk)
theorem gAast {a N v : Nat} {cA : ClassId} {r : vw_C} {vs : List Value} {f : Nat → Option Nat} {i : Int32} (X : Cx p m c cc nL s args own D tys) (I : In D A H0 (mw NW cf) H locs) (j t0 jk ci : Nat) (hj : j < NW) (he : cf j = (a, .inl (cA, N, .inr (.inr (.inr (.inr f)))))) (ht : tys[t0]? = some (cA, .object r.1)) (hjk : jk < NW) (hek : cf jk = (v, .inr (ci, vs))) (hc : classes[ci]? = some r) (hin : vp_in i N)
    (cg : Nat → Nat × va_E) (hg : cg j = (a, .inl (cA, N, .inr (.inr (.inr (.inr (va_up f i.toNatClampNeg (some v)))))))) (ho : ∀ i, i < NW → i ≠ j → cg i = cf i) (hdg : decode cc pc = .ok (.aastore, 1))
    (kk : ∀ (H1 : Heap) (locs1 : List Loc), In D A H0 (mw NW cg) H1 locs1 → W p l e R s m args below meth c H1 locs1 cells slots Q (F0 m (pc + 1) ls rest)) : W p l e R s m args below meth c H locs cells slots Q (F0 m pc ls (.ref v :: .int i :: .ref a :: rest)) :=
  va_astq X.1.1 X.1.2.1 X.2.1 I.1 I.2.1 I.2.2 j t0 jk ci (mw_atE hj he) ht (mw_atE hjk hek) hc hin hdg (fun H1 locs1 h1 h2 h3 => kk H1 locs1 (by rw [mw_set hg ho] at h1 h2; exact ⟨h1, h2, h3⟩))
end LY
/-! a method's head: what its body starts with, and its returns -/
section EN
variable {l : Launch} {y : MethodName} {cc : ByteArray} {nL lv : Nat} {D : va_G} {A : Nat → Prop} {tys : List (ClassId × FieldType)} {ws : va_W} {S : Type} {wf : S → va_W} {av : List Value}
theorem enterI {Φ : Int32 × S → Prop} (hy : plainName y.cls = true) (ha : (lg_sl av).length ≤ nL)
    (body : ∀ (p : Program) (e : Env) (s : State) (m : MethodId) (args : Array Value) (below : List Frame) (meth : Method) (c : Code) (Q : State → Prop), Cx p m c cc nL s args y.cls D tys →
      (∀ (H : Heap) (locs : List Loc) (pc : Nat) (ls : Array Slot) (v : Int32) (u : S), In D A s.heap (wf u) H locs → Φ (v, u) → decode cc pc = .ok (.ireturn, 1) → W p l e (rmK lv) s m args below meth c H locs 0 0 Q (F0 m pc ls [.int v])) →
      In D A s.heap ws s.heap [] → ∀ ls : Array Slot, lv_has ls nL (lv_args 0 av) → W p l e (rmK lv) s m args below meth c s.heap [] 0 0 Q (F0 m 0 ls [])) :
    Met l y (Cond.code y cc nL (some .int) :: BASE) (rmK lv) (va_Pc av (Pre D tys A ws)) (va_Qi (fun r u => Φ (r, u)) (Pst D A wf) A) 0 0 A := by
  refine Met.ofW (cc := cc) (maxL := nL) (ret := some .int) hy rfl ?_
  intro p e s m args below meth c s₁ B hml hv
  obtain ⟨rfl, hP, hK, hD⟩ := hv
  have hts := atoms_spec (ws := Cond.code y cc nL (some .int) :: BASE) B.pre
  have hlocks := B.notSynchronized
  rw [lg_entry_eq]
  refine body p e s m _ below meth c _ ⟨⟨B.exec, B.bytes, hml, findClass_of_methodNamed B.named, fun w hw => hts w (List.mem_cons_of_mem _ hw)⟩, hK⟩ ?_ ⟨hP, hD, va_S.rf⟩ _ (lv_entry av ha)
  intro H locs pc ls v u I hΦ hdg
  exact W.iret (v := v) B.exec B.bytes B.returns (fun t ht hW => ⟨⟨v, u, rfl, hΦ, by rw [ht]; exact I.1, I.2.1⟩, I.2.2.F ht⟩) I.2.2.2.2 hdg
theorem enterZ {Φ : Int32 × S → Prop} (hy : plainName y.cls = true) (ha : (lg_sl av).length ≤ nL)
    (body : ∀ (p : Program) (e : Env) (s : State) (m : MethodId) (args : Array Value) (below : List Frame) (meth : Method) (c : Code) (Q : State → Prop), Cx p m c cc nL s args y.cls D tys →
      (∀ (H : Heap) (locs : List Loc) (pc : Nat) (ls : Array Slot) (v : Int32) (u : S), In D A s.heap (wf u) H locs → Φ (v, u) → decode cc pc = .ok (.ireturn, 1) → narrow .boolean (.int v) = .int v → W p l e (rmK lv) s m args below meth c H locs 0 0 Q (F0 m pc ls [.int v])) →
      In D A s.heap ws s.heap [] → ∀ ls : Array Slot, lv_has ls nL (lv_args 0 av) → W p l e (rmK lv) s m args below meth c s.heap [] 0 0 Q (F0 m 0 ls [])) :
    Met l y (Cond.code y cc nL (some .boolean) :: BASE) (rmK lv) (va_Pc av (Pre D tys A ws)) (va_Qi (fun r u => Φ (r, u)) (Pst D A wf) A) 0 0 A := by
  refine Met.ofW (cc := cc) (maxL := nL) (ret := some .boolean) hy rfl ?_
  intro p e s m args below meth c s₁ B hml hv
  obtain ⟨rfl, hP, hK, hD⟩ := hv
  have hts := atoms_spec (ws := Cond.code y cc nL (some .boolean) :: BASE) B.pre
  have hlocks := B.notSynchronized
  rw [lg_entry_eq]
  refine body p e s m _ below meth c _ ⟨⟨B.exec, B.bytes, hml, findClass_of_methodNamed B.named, fun w hw => hts w (List.mem_cons_of_mem _ hw)⟩, hK⟩ ?_ ⟨hP, hD, va_S.rf⟩ _ (lv_entry av ha)
  intro H locs pc ls v u I hΦ hdg hn
  exact W.zret (v := v) B.exec B.bytes B.returns hn (fun t ht hW => ⟨⟨v, u, rfl, hΦ, by rw [ht]; exact I.1, I.2.1⟩, I.2.2.F ht⟩) I.2.2.2.2 hdg
theorem enterV {Φ : S → Prop} (hy : plainName y.cls = true) (ha : (lg_sl av).length ≤ nL)
    (body : ∀ (p : Program) (e : Env) (s : State) (m : MethodId) (args : Array Value) (below : List Frame) (meth : Method) (c : Code) (Q : State → Prop), Cx p m c cc nL s args y.cls D tys →
      (∀ (H : Heap) (locs : List Loc) (pc : Nat) (ls : Array Slot) (u : S), In D A s.heap (wf u) H locs → Φ u → decode cc pc = .ok (.return_, 1) → W p l e (rmK lv) s m args below meth c H locs 0 0 Q (F0 m pc ls [])) →
      In D A s.heap ws s.heap [] → ∀ ls : Array Slot, lv_has ls nL (lv_args 0 av) → W p l e (rmK lv) s m args below meth c s.heap [] 0 0 Q (F0 m 0 ls [])) :
    Met l y (Cond.code y cc nL none :: BASE) (rmK lv) (va_Pc av (Pre D tys A ws)) (va_Qv Φ (Pst D A wf) A) 0 0 A := by
  refine Met.ofW (cc := cc) (maxL := nL) (ret := none) hy rfl ?_
  intro p e s m args below meth c s₁ B hml hv
  obtain ⟨rfl, hP, hK, hD⟩ := hv
  have hts := atoms_spec (ws := Cond.code y cc nL none :: BASE) B.pre
  have hlocks := B.notSynchronized
  rw [lg_entry_eq]
  refine body p e s m _ below meth c _ ⟨⟨B.exec, B.bytes, hml, findClass_of_methodNamed B.named, fun w hw => hts w (List.mem_cons_of_mem _ hw)⟩, hK⟩ ?_ ⟨hP, hD, va_S.rf⟩ _ (lv_entry av ha)
  intro H locs pc ls u I hΦ hdg
  exact W.vret B.exec B.bytes B.returns (fun t ht hW => ⟨⟨u, rfl, hΦ, by rw [ht]; exact I.1, I.2.1⟩, I.2.2.F ht⟩) I.2.2.2.2 hdg
theorem enterQ {Φ : Option Nat × S → Prop} {n : String} (hy : plainName y.cls = true) (ha : (lg_sl av).length ≤ nL)
    (body : ∀ (p : Program) (e : Env) (s : State) (m : MethodId) (args : Array Value) (below : List Frame) (meth : Method) (c : Code) (Q : State → Prop), Cx p m c cc nL s args y.cls D tys →
      (∀ (H : Heap) (locs : List Loc) (pc : Nat) (ls : Array Slot) (v : Option Nat) (u : S), In D A s.heap (wf u) H locs → Φ (v, u) → decode cc pc = .ok (.areturn, 1) → W p l e (rmK lv) s m args below meth c H locs 0 0 Q (F0 m pc ls [va_rf v])) →
      In D A s.heap ws s.heap [] → ∀ ls : Array Slot, lv_has ls nL (lv_args 0 av) → W p l e (rmK lv) s m args below meth c s.heap [] 0 0 Q (F0 m 0 ls [])) :
    Met l y (Cond.code y cc nL (some (.object n)) :: BASE) (rmK lv) (va_Pc av (Pre D tys A ws)) (va_Qq (fun r u => Φ (r, u)) (Pst D A wf) A) 0 0 A := by
  refine Met.ofW (cc := cc) (maxL := nL) (ret := some (.object n)) hy rfl ?_
  intro p e s m args below meth c s₁ B hml hv
  obtain ⟨rfl, hP, hK, hD⟩ := hv
  have hts := atoms_spec (ws := Cond.code y cc nL (some (.object n)) :: BASE) B.pre
  have hlocks := B.notSynchronized
  rw [lg_entry_eq]
  refine body p e s m _ below meth c _ ⟨⟨B.exec, B.bytes, hml, findClass_of_methodNamed B.named, fun w hw => hts w (List.mem_cons_of_mem _ hw)⟩, hK⟩ ?_ ⟨hP, hD, va_S.rf⟩ _ (lv_entry av ha)
  intro H locs pc ls v u I hΦ hdg
  exact W.aret (v := va_rf v) B.exec B.bytes B.returns (Or.inl ⟨n, rfl⟩) (va_rf_or v) (fun t ht hW => ⟨⟨v, u, rfl, hΦ, by rw [ht]; exact I.1, I.2.1⟩, I.2.2.F ht⟩) I.2.2.2.2 hdg
end EN
end
section
/-! ===== TwinLog's world: a pure state, its cells, rows ===== -/
/-- size; node n's numbers by field; the six arrays (3 n + k); messages by id and field; the ids in the link's order -/
abbrev St : Type := Int32 × (Nat → Nat → Int32) × (Nat → Nat → Int32) × (Nat → Nat → Int32) × (Nat → Nat)
def up2 (f : Nat → Nat → Int32) (a b : Nat) (v : Int32) : Nat → Nat → Int32 := fun x y => if x = a ∧ y = b then v else f x y
def zs (σ : St) : Int32 := σ.1
def nf (σ : St) : Nat → Nat → Int32 := σ.2.1
def ar (σ : St) : Nat → Nat → Int32 := σ.2.2.1
def mg (σ : St) : Nat → Nat → Int32 := σ.2.2.2.1
def lk (σ : St) : Nat → Nat := σ.2.2.2.2
def sz (σ : St) (v : Int32) : St := (v, σ.2)
def sn (σ : St) (n k : Nat) (v : Int32) : St := (σ.1, up2 σ.2.1 n k v, σ.2.2)
def sa (σ : St) (j i : Nat) (v : Int32) : St := (σ.1, σ.2.1, up2 σ.2.2.1 j i v, σ.2.2.2)
def sm (σ : St) (i k : Nat) (v : Int32) : St := (σ.1, σ.2.1, σ.2.2.1, up2 σ.2.2.2.1 i k v, σ.2.2.2.2)
def sl (σ : St) (i d : Nat) : St := (σ.1, σ.2.1, σ.2.2.1, σ.2.2.2.1, va_up σ.2.2.2.2 i d)
def nodeF (ad : Nat → Nat) (σ : St) (n : Nat) : List Value := [.int (nf σ n 0), .ref (ad (5 + (3 * n + 0))), .ref (ad (5 + (3 * n + 1))), .ref (ad (5 + (3 * n + 2))), .int (nf σ n 4), .int (nf σ n 5), .int (nf σ n 6), .int (nf σ n 7), .int (nf σ n 8), .int (nf σ n 9)]
def msgF (σ : St) (i : Nat) : List Value := [.int (mg σ i 0), .int (mg σ i 1), .int (mg σ i 2), .int (mg σ i 3), .int (mg σ i 4), .int (mg σ i 5), .int (mg σ i 6), .int (mg σ i 7), .int (mg σ i 8)]
def cT (ca : Nat → ClassId) (ad : Nat → Nat) (σ : St) (j : Nat) : Nat × va_E :=
  if j = 0 then (ad 0, .inr (0, [.ref (ad 1), .ref (ad 2), .int (zs σ)]))
  else if j = 1 then (ad 1, .inl (ca 1, 2, .inr (.inr (.inr (.inr fun i => some (ad (3 + i)))))))
  else if j = 2 then (ad 2, .inl (ca 2, 17, .inr (.inr (.inr (.inr fun i => some (ad (11 + lk σ i)))))))
  else if j < 5 then (ad j, .inr (1, nodeF ad σ (j - 3)))
  else if j < 11 then (ad j, .inl (ca 0, 64, .inl (ar σ (j - 5))))
  else (ad j, .inr (2, msgF σ (j - 11)))
def wT (ca : Nat → ClassId) (ad : Nat → Nat) (σ : St) : va_W := mw 28 (cT ca ad σ)
def tysT (ca : Nat → ClassId) : List (ClassId × FieldType) := [(ca 0, .int), (ca 1, .object R_N), (ca 2, .object R_G)]
section CT
variable {ca : Nat → ClassId} {ad : Nat → Nat} {σ : St}
theorem cT_n {n : Nat} (h : n < 2) : cT ca ad σ (3 + n) = (ad (3 + n), .inr (1, nodeF ad σ n)) := by
  unfold cT
  rw [if_neg (by omega), if_neg (by omega), if_neg (by omega), if_pos (by omega), Nat.add_sub_cancel_left]
theorem cT_a {j : Nat} (h : j < 6) : cT ca ad σ (5 + j) = (ad (5 + j), .inl (ca 0, 64, .inl (ar σ j))) := by
  unfold cT
  rw [if_neg (by omega), if_neg (by omega), if_neg (by omega), if_neg (by omega), if_pos (by omega), Nat.add_sub_cancel_left]
theorem cT_g (i : Nat) : cT ca ad σ (11 + i) = (ad (11 + i), .inr (2, msgF σ i)) := by
  unfold cT
  rw [if_neg (by omega), if_neg (by omega), if_neg (by omega), if_neg (by omega), if_neg (by omega), Nat.add_sub_cancel_left]
theorem nodeF_o {n i : Nat} {k : Nat} {v : Int32} (h : i ≠ n) : nodeF ad (sn σ n k v) i = nodeF ad σ i := by
  have e : ∀ q, nf (sn σ n k v) i q = nf σ i q := fun q => by simp [nf, sn, up2, h]
  simp only [nodeF, e]
theorem msgF_o {n i : Nat} {k : Nat} {v : Int32} (h : i ≠ n) : msgF (sm σ n k v) i = msgF σ i := by
  have e : ∀ q, mg (sm σ n k v) i q = mg σ i q := fun q => by simp [mg, sm, up2, h]
  simp only [msgF, e]
theorem ar_o {n i : Nat} {k : Nat} {v : Int32} (h : i ≠ n) : ar (sa σ n k v) i = ar σ i := by
  funext q
  simp [ar, sa, up2, h]
theorem ar_s {n : Nat} {k : Nat} {v : Int32} : ar (sa σ n k v) n = upd (ar σ n) k v := by
  funext q
  simp [ar, sa, up2, upd]
theorem cT_on {n k : Nat} {v : Int32} : ∀ i, i < 28 → i ≠ 3 + n → cT ca ad (sn σ n k v) i = cT ca ad σ i := by
  intro i _ hi
  unfold cT
  by_cases h0 : i = 0
  · rw [if_pos h0, if_pos h0]; rfl
  rw [if_neg h0, if_neg h0]
  by_cases h1 : i = 1
  · rw [if_pos h1, if_pos h1]
  rw [if_neg h1, if_neg h1]
  by_cases h2 : i = 2
  · rw [if_pos h2, if_pos h2]; rfl
  rw [if_neg h2, if_neg h2]
  by_cases h3 : i < 5
  · rw [if_pos h3, if_pos h3, nodeF_o (by omega)]
  rw [if_neg h3, if_neg h3]
  rfl
theorem cT_oa {n k : Nat} {v : Int32} : ∀ i, i < 28 → i ≠ 5 + n → cT ca ad (sa σ n k v) i = cT ca ad σ i := by
  intro i _ hi
  unfold cT
  by_cases h0 : i = 0
  · rw [if_pos h0, if_pos h0]; rfl
  rw [if_neg h0, if_neg h0]
  by_cases h1 : i = 1
  · rw [if_pos h1, if_pos h1]
  rw [if_neg h1, if_neg h1]
  by_cases h2 : i = 2
  · rw [if_pos h2, if_pos h2]; rfl
  rw [if_neg h2, if_neg h2]
  by_cases h3 : i < 5
  · rw [if_pos h3, if_pos h3]; rfl
  rw [if_neg h3, if_neg h3]
  by_cases h4 : i < 11
  · rw [if_pos h4, if_pos h4, ar_o (by omega)]
  rw [if_neg h4, if_neg h4]
  rfl
theorem cT_og {n k : Nat} {v : Int32} : ∀ i, i < 28 → i ≠ 11 + n → cT ca ad (sm σ n k v) i = cT ca ad σ i := by
  intro i _ hi
  unfold cT
  by_cases h0 : i = 0
  · rw [if_pos h0, if_pos h0]; rfl
  rw [if_neg h0, if_neg h0]
  by_cases h1 : i = 1
  · rw [if_pos h1, if_pos h1]
  rw [if_neg h1, if_neg h1]
  by_cases h2 : i = 2
  · rw [if_pos h2, if_pos h2]; rfl
  rw [if_neg h2, if_neg h2]
  by_cases h3 : i < 5
  · rw [if_pos h3, if_pos h3]; rfl
  rw [if_neg h3, if_neg h3]
  by_cases h4 : i < 11
  · rw [if_pos h4, if_pos h4]; rfl
  rw [if_neg h4, if_neg h4, msgF_o (by omega)]
theorem cT_oz {v : Int32} : ∀ i, i < 28 → i ≠ 0 → cT ca ad (sz σ v) i = cT ca ad σ i := by
  intro i _ hi
  unfold cT
  rw [if_neg hi, if_neg hi]
  rfl
theorem cT_ol {q d : Nat} : ∀ i, i < 28 → i ≠ 2 → cT ca ad (sl σ q d) i = cT ca ad σ i := by
  intro i _ hi
  unfold cT
  by_cases h0 : i = 0
  · rw [if_pos h0, if_pos h0]; rfl
  rw [if_neg h0, if_neg h0]
  by_cases h1 : i = 1
  · rw [if_pos h1, if_pos h1]
  rw [if_neg h1, if_neg h1, if_neg hi, if_neg hi]
  rfl
def nInt (k : Nat) : Bool := k == 0 || (decide (4 ≤ k) && decide (k < 10))
theorem nodeF_get {n k : Nat} (h : nInt k = true) : (nodeF ad σ n)[k]? = some (.int (nf σ n k)) := by
  have hk : k = 0 ∨ k = 4 ∨ k = 5 ∨ k = 6 ∨ k = 7 ∨ k = 8 ∨ k = 9 := by
    simp [nInt] at h
    omega
  rcases hk with rfl | rfl | rfl | rfl | rfl | rfl | rfl <;> rfl
theorem nodeF_getA {n k : Nat} (h : k < 3) : (nodeF ad σ n)[k + 1]? = some (.ref (ad (5 + (3 * n + k)))) := by
  rcases (show k = 0 ∨ k = 1 ∨ k = 2 by omega) with rfl | rfl | rfl <;> rfl
theorem nodeF_set {n k : Nat} {v : Int32} (h : nInt k = true) : nodeF ad (sn σ n k v) n = (nodeF ad σ n).set k (.int v) := by
  have hk : k = 0 ∨ k = 4 ∨ k = 5 ∨ k = 6 ∨ k = 7 ∨ k = 8 ∨ k = 9 := by
    simp [nInt] at h
    omega
  rcases hk with rfl | rfl | rfl | rfl | rfl | rfl | rfl <;> simp [nodeF, nf, sn, up2]
theorem nInt_lt {k : Nat} (h : nInt k = true) : k < 10 := by
  simp [nInt] at h
  omega
theorem msgF_get {n k : Nat} (h : k < 9) : (msgF σ n)[k]? = some (.int (mg σ n k)) := by
  rcases (show k = 0 ∨ k = 1 ∨ k = 2 ∨ k = 3 ∨ k = 4 ∨ k = 5 ∨ k = 6 ∨ k = 7 ∨ k = 8 by omega) with rfl | rfl | rfl | rfl | rfl | rfl | rfl | rfl | rfl <;> rfl
theorem msgF_set {n k : Nat} {v : Int32} (h : k < 9) : msgF (sm σ n k v) n = (msgF σ n).set k (.int v) := by
  rcases (show k = 0 ∨ k = 1 ∨ k = 2 ∨ k = 3 ∨ k = 4 ∨ k = 5 ∨ k = 6 ∨ k = 7 ∨ k = 8 by omega) with rfl | rfl | rfl | rfl | rfl | rfl | rfl | rfl | rfl <;> simp [msgF, mg, sm, up2]
end CT
section RT
variable {p : Program} {l : Launch} {e : Env} {R : Room} {s : State} {m : MethodId} {args : Array Value} {below : List Frame} {meth : Method} {c : Code} {H H0 : Heap} {locs : List Loc} {cells slots : Nat} {Q : State → Prop}
variable {cc : ByteArray} {pc nL : Nat} {ls : Array Slot} {rest : List Value} {D : va_G} {A : Nat → Prop} {ca : Nat → ClassId} {ad : Nat → Nat} {σ : St}
theorem F_Nk (k : Nat) : (F_N k).1 = R_N := by
  unfold F_N
  split <;> rfl
theorem F_Gk (k : Nat) : (F_G k).1 = R_G := by
  unfold F_G
  split <;> rfl
theorem F_Nf {k : Nat} (h : nInt k = true) : (F_N k).2.2.2 = false := by
  have hk : k = 0 ∨ k = 4 ∨ k = 5 ∨ k = 6 ∨ k = 7 ∨ k = 8 ∨ k = 9 := by
    simp [nInt] at h
    omega
  rcases hk with rfl | rfl | rfl | rfl | rfl | rfl | rfl <;> rfl
theorem F_Gf (k : Nat) : (F_G k).2.2.2 = false := by
  unfold F_G
  split <;> rfl
theorem ft_Gk (k : Nat) : ft_G k = .int := by
  unfold ft_G
  split <;> rfl
/-- TwinLog.nodes, .link -/
theorem tGetNodes (X : Cx p m c cc nL s args R_T D (tysT ca)) (I : In D A H0 (wT ca ad σ) H locs) (hdg : decode cc pc = .ok (.getfield 10, 3))
    (kk : W p l e R s m args below meth c H locs cells slots Q (F0 m (pc + 3) ls (.ref (ad 1) :: rest))) : W p l e R s m args below meth c H locs cells slots Q (F0 m pc ls (.ref (ad 0) :: rest)) :=
  gfGet (ref := R_T) (T := F_T) (ci := 0) X I i_T rfl 0 0 (by decide) rfl (by decide) (tIx_in 0 (by decide)) rfl hdg kk
theorem tGetLink (X : Cx p m c cc nL s args R_T D (tysT ca)) (I : In D A H0 (wT ca ad σ) H locs) (hdg : decode cc pc = .ok (.getfield 18, 3))
    (kk : W p l e R s m args below meth c H locs cells slots Q (F0 m (pc + 3) ls (.ref (ad 2) :: rest))) : W p l e R s m args below meth c H locs cells slots Q (F0 m pc ls (.ref (ad 0) :: rest)) :=
  gfGet (ref := R_T) (T := F_T) (ci := 0) X I i_T rfl 0 1 (by decide) rfl (by decide) (tIx_in 1 (by decide)) rfl hdg kk
theorem tGetSize (X : Cx p m c cc nL s args R_T D (tysT ca)) (I : In D A H0 (wT ca ad σ) H locs) (hdg : decode cc pc = .ok (.getfield 31, 3))
    (kk : W p l e R s m args below meth c H locs cells slots Q (F0 m (pc + 3) ls (.int (zs σ) :: rest))) : W p l e R s m args below meth c H locs cells slots Q (F0 m pc ls (.ref (ad 0) :: rest)) :=
  gfGet (ref := R_T) (T := F_T) (ci := 0) X I i_T rfl 0 2 (by decide) rfl (by decide) (tIx_in 2 (by decide)) rfl hdg kk
theorem tPutSize {v : Int32} (X : Cx p m c cc nL s args R_T D (tysT ca)) (I : In D A H0 (wT ca ad σ) H locs) (hdg : decode cc pc = .ok (.putfield 31, 3))
    (kk : ∀ (H1 : Heap) (locs1 : List Loc), In D A H0 (wT ca ad (sz σ v)) H1 locs1 → W p l e R s m args below meth c H1 locs1 cells slots Q (F0 m (pc + 3) ls rest)) : W p l e R s m args below meth c H locs cells slots Q (F0 m pc ls (.int v :: .ref (ad 0) :: rest)) :=
  gfPut (T := F_T) (ci := 0) X I i_T ft_T_ok n_T rfl 0 2 (by decide) rfl (by decide) (tIx_in 2 (by decide)) rfl rfl rfl (Nat.le_of_ble_eq_true rfl) (cT ca ad (sz σ v)) rfl cT_oz hdg kk
/-- nodes[i], link[i] -/
theorem tNode {i : Int32} (X : Cx p m c cc nL s args R_T D (tysT ca)) (I : In D A H0 (wT ca ad σ) H locs) (hin : vp_in i 2) (hdg : decode cc pc = .ok (.aaload, 1))
    (kk : W p l e R s m args below meth c H locs cells slots Q (F0 m (pc + 1) ls (.ref (ad (3 + i.toNatClampNeg)) :: rest))) : W p l e R s m args below meth c H locs cells slots Q (F0 m pc ls (.int i :: .ref (ad 1) :: rest)) :=
  gAald (C := R_N) X I 1 1 (by decide) rfl rfl hin rfl hdg kk
theorem tLink {i : Int32} (X : Cx p m c cc nL s args R_T D (tysT ca)) (I : In D A H0 (wT ca ad σ) H locs) (hin : vp_in i 17) (hdg : decode cc pc = .ok (.aaload, 1))
    (kk : W p l e R s m args below meth c H locs cells slots Q (F0 m (pc + 1) ls (.ref (ad (11 + lk σ i.toNatClampNeg)) :: rest))) : W p l e R s m args below meth c H locs cells slots Q (F0 m pc ls (.int i :: .ref (ad 2) :: rest)) :=
  gAald (C := R_G) X I 2 2 (by decide) rfl rfl hin rfl hdg kk
theorem tLinkSt {i : Int32} {d : Nat} (X : Cx p m c cc nL s args R_T D (tysT ca)) (I : In D A H0 (wT ca ad σ) H locs) (hd : d < 17) (hin : vp_in i 17) (hdg : decode cc pc = .ok (.aastore, 1))
    (kk : ∀ (H1 : Heap) (locs1 : List Loc), In D A H0 (wT ca ad (sl σ i.toNatClampNeg d)) H1 locs1 → W p l e R s m args below meth c H1 locs1 cells slots Q (F0 m (pc + 1) ls rest)) : W p l e R s m args below meth c H locs cells slots Q (F0 m pc ls (.ref (ad (11 + d)) :: .int i :: .ref (ad 2) :: rest)) :=
  gAast (r := (R_G, F_G, 9)) X I 2 2 (11 + d) 2 (by decide) rfl rfl (by omega) (cT_g d) rfl hin (cT ca ad (sl σ i.toNatClampNeg d)) (by
    have e : (fun q => some (ad (11 + lk (sl σ i.toNatClampNeg d) q))) = va_up (fun q => some (ad (11 + lk σ q))) i.toNatClampNeg (some (ad (11 + d))) := by
      funext q
      simp only [lk, sl, va_up]
      split <;> rfl
    show ((ad 2, .inl (ca 2, 17, .inr (.inr (.inr (.inr fun q => some (ad (11 + lk (sl σ i.toNatClampNeg d) q))))))) : Nat × va_E) = _
    rw [e]) cT_ol hdg kk
/-- a node's numbers and arrays, from TwinLog -/
theorem tGetN (k : Nat) {n : Nat} (X : Cx p m c cc nL s args R_T D (tysT ca)) (I : In D A H0 (wT ca ad σ) H locs) (hk : nInt k = true) (hn : n < 2) (hdg : decode cc pc = .ok (.getfield (nIx k), 3))
    (kk : W p l e R s m args below meth c H locs cells slots Q (F0 m (pc + 3) ls (.int (nf σ n k) :: rest))) : W p l e R s m args below meth c H locs cells slots Q (F0 m pc ls (.ref (ad (3 + n)) :: rest)) :=
  gfGetN (ref := R_N) (host := R_T) (T := F_N) (ci := 1) X I i_N rfl (3 + n) k (by omega) (cT_n hn) (nInt_lt hk) (by rw [F_Nk]; exact X.2.2.1 k (nInt_lt hk)) (nodeF_get hk) hdg kk
theorem tGetNA (k : Nat) {n : Nat} (X : Cx p m c cc nL s args R_T D (tysT ca)) (I : In D A H0 (wT ca ad σ) H locs) (hk : k < 3) (hn : n < 2) (hdg : decode cc pc = .ok (.getfield (nIx (k + 1)), 3))
    (kk : W p l e R s m args below meth c H locs cells slots Q (F0 m (pc + 3) ls (.ref (ad (5 + (3 * n + k))) :: rest))) : W p l e R s m args below meth c H locs cells slots Q (F0 m pc ls (.ref (ad (3 + n)) :: rest)) :=
  gfGetN (ref := R_N) (host := R_T) (T := F_N) (ci := 1) X I i_N rfl (3 + n) (k + 1) (by omega) (cT_n hn) (by omega) (by rw [F_Nk]; exact X.2.2.1 (k + 1) (by omega)) (nodeF_getA hk) hdg kk
theorem tPutN (k : Nat) {n : Nat} {v : Int32} (X : Cx p m c cc nL s args R_T D (tysT ca)) (I : In D A H0 (wT ca ad σ) H locs) (hk : nInt k = true) (hn : n < 2) (hnr : narrow (ft_N k) (.int v) = .int v) (hft : fits (ft_N k) (.int v) = true) (hdg : decode cc pc = .ok (.putfield (nIx k), 3))
    (kk : ∀ (H1 : Heap) (locs1 : List Loc), In D A H0 (wT ca ad (sn σ n k v)) H1 locs1 → W p l e R s m args below meth c H1 locs1 cells slots Q (F0 m (pc + 3) ls rest)) : W p l e R s m args below meth c H locs cells slots Q (F0 m pc ls (.int v :: .ref (ad (3 + n)) :: rest)) :=
  gfPutN (host := R_T) (T := F_N) (ci := 1) X I i_N ft_N_ok n_N rfl (3 + n) k (by omega) (cT_n hn) (nInt_lt hk) (by rw [F_Nk]; exact X.2.2.1 k (nInt_lt hk)) (F_Nf hk) hnr hft (by show k < 10; exact nInt_lt hk) (cT ca ad (sn σ n k v)) (by rw [cT_n hn, nodeF_set hk]) cT_on hdg kk
/-- the same from Node's own methods -/
theorem oGetN (k : Nat) {n : Nat} (X : Cx p m c cc nL s args R_N D (tysT ca)) (I : In D A H0 (wT ca ad σ) H locs) (hk : nInt k = true) (hn : n < 2) (hdg : decode cc pc = .ok (.getfield (oIx k), 3))
    (kk : W p l e R s m args below meth c H locs cells slots Q (F0 m (pc + 3) ls (.int (nf σ n k) :: rest))) : W p l e R s m args below meth c H locs cells slots Q (F0 m pc ls (.ref (ad (3 + n)) :: rest)) :=
  gfGet (ref := R_N) (T := F_N) (ci := 1) X I i_N rfl (3 + n) k (by omega) (cT_n hn) (nInt_lt hk) (by rw [F_Nk]; exact oIx_in k (nInt_lt hk)) (nodeF_get hk) hdg kk
theorem oGetNA (k : Nat) {n : Nat} (X : Cx p m c cc nL s args R_N D (tysT ca)) (I : In D A H0 (wT ca ad σ) H locs) (hk : k < 3) (hn : n < 2) (hdg : decode cc pc = .ok (.getfield (oIx (k + 1)), 3))
    (kk : W p l e R s m args below meth c H locs cells slots Q (F0 m (pc + 3) ls (.ref (ad (5 + (3 * n + k))) :: rest))) : W p l e R s m args below meth c H locs cells slots Q (F0 m pc ls (.ref (ad (3 + n)) :: rest)) :=
  gfGet (ref := R_N) (T := F_N) (ci := 1) X I i_N rfl (3 + n) (k + 1) (by omega) (cT_n hn) (by omega) (by rw [F_Nk]; exact oIx_in (k + 1) (by omega)) (nodeF_getA hk) hdg kk
theorem oPutN (k : Nat) {n : Nat} {v : Int32} (X : Cx p m c cc nL s args R_N D (tysT ca)) (I : In D A H0 (wT ca ad σ) H locs) (hk : nInt k = true) (hn : n < 2) (hnr : narrow (ft_N k) (.int v) = .int v) (hft : fits (ft_N k) (.int v) = true) (hdg : decode cc pc = .ok (.putfield (oIx k), 3))
    (kk : ∀ (H1 : Heap) (locs1 : List Loc), In D A H0 (wT ca ad (sn σ n k v)) H1 locs1 → W p l e R s m args below meth c H1 locs1 cells slots Q (F0 m (pc + 3) ls rest)) : W p l e R s m args below meth c H locs cells slots Q (F0 m pc ls (.int v :: .ref (ad (3 + n)) :: rest)) :=
  gfPut (T := F_N) (ci := 1) X I i_N ft_N_ok n_N rfl (3 + n) k (by omega) (cT_n hn) (nInt_lt hk) (by rw [F_Nk]; exact oIx_in k (nInt_lt hk)) (F_Nf hk) hnr hft (by show k < 10; exact nInt_lt hk) (cT ca ad (sn σ n k v)) (by rw [cT_n hn, nodeF_set hk]) cT_on hdg kk
/-- the arrays of the nodes -/
theorem tAld {own : String} {j : Nat} {i : Int32} (X : Cx p m c cc nL s args own D (tysT ca)) (I : In D A H0 (wT ca ad σ) H locs) (hj : j < 6) (hin : vp_in i 64) (hdg : decode cc pc = .ok (.iaload, 1))
    (kk : W p l e R s m args below meth c H locs cells slots Q (F0 m (pc + 1) ls (.int (ar σ j i.toNatClampNeg) :: rest))) : W p l e R s m args below meth c H locs cells slots Q (F0 m pc ls (.int i :: .ref (ad (5 + j)) :: rest)) :=
  gIald X I (5 + j) 0 (by omega) (cT_a hj) rfl hin hdg kk
theorem tAst {own : String} {j : Nat} {i x : Int32} (X : Cx p m c cc nL s args own D (tysT ca)) (I : In D A H0 (wT ca ad σ) H locs) (hj : j < 6) (hin : vp_in i 64) (hdg : decode cc pc = .ok (.iastore, 1))
    (kk : ∀ (H1 : Heap) (locs1 : List Loc), In D A H0 (wT ca ad (sa σ j i.toNatClampNeg x)) H1 locs1 → W p l e R s m args below meth c H1 locs1 cells slots Q (F0 m (pc + 1) ls rest)) : W p l e R s m args below meth c H locs cells slots Q (F0 m pc ls (.int x :: .int i :: .ref (ad (5 + j)) :: rest)) :=
  gIast X I (5 + j) 0 (by omega) (cT_a hj) rfl hin (cT ca ad (sa σ j i.toNatClampNeg x)) (by rw [cT_a hj, ar_s]) cT_oa hdg kk
/-- messages -/
theorem tGetG (k : Nat) {i : Nat} (X : Cx p m c cc nL s args R_T D (tysT ca)) (I : In D A H0 (wT ca ad σ) H locs) (hk : k < 9) (hi : i < 17) (hdg : decode cc pc = .ok (.getfield (gIx k), 3))
    (kk : W p l e R s m args below meth c H locs cells slots Q (F0 m (pc + 3) ls (.int (mg σ i k) :: rest))) : W p l e R s m args below meth c H locs cells slots Q (F0 m pc ls (.ref (ad (11 + i)) :: rest)) :=
  gfGetN (ref := R_G) (host := R_T) (T := F_G) (ci := 2) X I i_G rfl (11 + i) k (by omega) (cT_g i) hk (by rw [F_Gk]; exact X.2.2.2 k hk) (msgF_get hk) hdg kk
theorem tPutG (k : Nat) {i : Nat} {v : Int32} (X : Cx p m c cc nL s args R_T D (tysT ca)) (I : In D A H0 (wT ca ad σ) H locs) (hk : k < 9) (hi : i < 17) (hdg : decode cc pc = .ok (.putfield (gIx k), 3))
    (kk : ∀ (H1 : Heap) (locs1 : List Loc), In D A H0 (wT ca ad (sm σ i k v)) H1 locs1 → W p l e R s m args below meth c H1 locs1 cells slots Q (F0 m (pc + 3) ls rest)) : W p l e R s m args below meth c H locs cells slots Q (F0 m pc ls (.int v :: .ref (ad (11 + i)) :: rest)) :=
  gfPutN (host := R_T) (T := F_G) (ci := 2) X I i_G ft_G_ok n_G rfl (11 + i) k (by omega) (cT_g i) hk (by rw [F_Gk]; exact X.2.2.2 k hk) (F_Gf k) (by rw [ft_Gk]; rfl) (by rw [ft_Gk]; rfl) (by show k < 9; exact hk) (cT ca ad (sm σ i k v)) (by rw [cT_g, msgF_set hk]) cT_og hdg kk
end RT
end
section
/-! ===== TwinLogModel's world: a pure state, its cells, rows ===== -/
/-- many; the arrays by their number (1 terms, 2 lengths, 3 down, 4 primary, 5 agreed, 6 fuses, 7 writes, 8 entryTerms, 9 entryKeys, 10 entryValues, 11 messages, 12 come) -/
abbrev Mt : Type := Int32 × (Nat → Nat → Int32)
def mz (τ : Mt) : Int32 := τ.1
def am (τ : Mt) : Nat → Nat → Int32 := τ.2
def dz (τ : Mt) (v : Int32) : Mt := (v, τ.2)
def da (τ : Mt) (j i : Nat) (v : Int32) : Mt := (τ.1, up2 τ.2 j i v)
def msz (j : Nat) : Nat := if j < 8 then 2 else if j < 11 then 128 else if j = 11 then 144 else 9
def mcl (ca : Nat → ClassId) (j : Nat) : ClassId := if j = 3 ∨ j = 4 then ca 1 else ca 0
def modF (ad : Nat → Nat) (τ : Mt) : List Value := [.ref (ad 1), .ref (ad 2), .ref (ad 3), .ref (ad 4), .ref (ad 5), .ref (ad 6), .ref (ad 7), .ref (ad 8), .ref (ad 9), .ref (ad 10), .ref (ad 11), .int (mz τ), .ref (ad 12)]
def cD (ca : Nat → ClassId) (ad : Nat → Nat) (τ : Mt) (j : Nat) : Nat × va_E :=
  if j = 0 then (ad 0, .inr (3, modF ad τ)) else (ad j, .inl (mcl ca j, msz j, .inl (am τ j)))
def wD (ca : Nat → ClassId) (ad : Nat → Nat) (τ : Mt) : va_W := mw 13 (cD ca ad τ)
def tysD (ca : Nat → ClassId) : List (ClassId × FieldType) := [(ca 0, .int), (ca 1, .boolean)]
section CD
variable {ca : Nat → ClassId} {ad : Nat → Nat} {τ : Mt}
theorem cD_a {j : Nat} (h : j ≠ 0) : cD ca ad τ j = (ad j, .inl (mcl ca j, msz j, .inl (am τ j))) := by
  unfold cD
  rw [if_neg h]
theorem am_o {n i : Nat} {k : Nat} {v : Int32} (h : i ≠ n) : am (da τ n k v) i = am τ i := by
  funext q
  simp [am, da, up2, h]
theorem am_s {n : Nat} {k : Nat} {v : Int32} : am (da τ n k v) n = upd (am τ n) k v := by
  funext q
  simp [am, da, up2, upd]
theorem cD_oa {n k : Nat} {v : Int32} : ∀ i, i < 13 → i ≠ n → cD ca ad (da τ n k v) i = cD ca ad τ i := by
  intro i _ hi
  unfold cD
  by_cases h0 : i = 0
  · rw [if_pos h0, if_pos h0]; rfl
  rw [if_neg h0, if_neg h0, am_o hi]
theorem cD_oz {v : Int32} : ∀ i, i < 13 → i ≠ 0 → cD ca ad (dz τ v) i = cD ca ad τ i := by
  intro i _ hi
  unfold cD
  rw [if_neg hi, if_neg hi]
  rfl
def dK (j : Nat) : Nat := if j = 12 then 12 else j - 1
theorem modF_get {j : Nat} (h : 0 < j) (h2 : j < 13) : (modF ad τ)[dK j]? = some (.ref (ad j)) := by
  rcases (show j = 1 ∨ j = 2 ∨ j = 3 ∨ j = 4 ∨ j = 5 ∨ j = 6 ∨ j = 7 ∨ j = 8 ∨ j = 9 ∨ j = 10 ∨ j = 11 ∨ j = 12 by omega) with rfl | rfl | rfl | rfl | rfl | rfl | rfl | rfl | rfl | rfl | rfl | rfl <;> rfl
theorem F_Dk (k : Nat) : (F_D k).1 = R_D := by
  unfold F_D
  split <;> rfl
end CD
section RD
variable {p : Program} {l : Launch} {e : Env} {R : Room} {s : State} {m : MethodId} {args : Array Value} {below : List Frame} {meth : Method} {c : Code} {H H0 : Heap} {locs : List Loc} {cells slots : Nat} {Q : State → Prop}
variable {cc : ByteArray} {pc nL : Nat} {ls : Array Slot} {rest : List Value} {D : va_G} {A : Nat → Prop} {ca : Nat → ClassId} {ad : Nat → Nat} {τ : Mt}
theorem dGetA (j : Nat) (X : Cx p m c cc nL s args R_D D (tysD ca)) (I : In D A H0 (wD ca ad τ) H locs) (hj : 0 < j) (hj2 : j < 13) (hdg : decode cc pc = .ok (.getfield (dIx (dK j)), 3))
    (kk : W p l e R s m args below meth c H locs cells slots Q (F0 m (pc + 3) ls (.ref (ad j) :: rest))) : W p l e R s m args below meth c H locs cells slots Q (F0 m pc ls (.ref (ad 0) :: rest)) :=
  have hk : dK j < 13 := by unfold dK; split <;> omega
  gfGet (ref := R_D) (T := F_D) (ci := 3) X I i_D rfl 0 (dK j) (by decide) rfl hk (by rw [F_Dk]; exact dIx_in (dK j) hk) (modF_get hj hj2) hdg kk
theorem dGetZ (X : Cx p m c cc nL s args R_D D (tysD ca)) (I : In D A H0 (wD ca ad τ) H locs) (hdg : decode cc pc = .ok (.getfield 50, 3))
    (kk : W p l e R s m args below meth c H locs cells slots Q (F0 m (pc + 3) ls (.int (mz τ) :: rest))) : W p l e R s m args below meth c H locs cells slots Q (F0 m pc ls (.ref (ad 0) :: rest)) :=
  gfGet (ref := R_D) (T := F_D) (ci := 3) X I i_D rfl 0 11 (by decide) rfl (by decide) (dIx_in 11 (by decide)) rfl hdg kk
theorem dPutZ {v : Int32} (X : Cx p m c cc nL s args R_D D (tysD ca)) (I : In D A H0 (wD ca ad τ) H locs) (hdg : decode cc pc = .ok (.putfield 50, 3))
    (kk : ∀ (H1 : Heap) (locs1 : List Loc), In D A H0 (wD ca ad (dz τ v)) H1 locs1 → W p l e R s m args below meth c H1 locs1 cells slots Q (F0 m (pc + 3) ls rest)) : W p l e R s m args below meth c H locs cells slots Q (F0 m pc ls (.int v :: .ref (ad 0) :: rest)) :=
  gfPut (T := F_D) (ci := 3) X I i_D ft_D_ok n_D rfl 0 11 (by decide) rfl (by decide) (dIx_in 11 (by decide)) rfl rfl rfl (Nat.le_of_ble_eq_true rfl) (cD ca ad (dz τ v)) rfl cD_oz hdg kk
theorem mcl_i {j : Nat} (h : j ≠ 3 ∧ j ≠ 4) : mcl ca j = ca 0 := by
  unfold mcl
  rw [if_neg (by omega)]
theorem mcl_z {j : Nat} (h : j = 3 ∨ j = 4) : mcl ca j = ca 1 := by
  unfold mcl
  rw [if_pos h]
/-- int arrays: j is the array's number, N its length -/
theorem dIald (j : Nat) {N : Nat} {i : Int32} (X : Cx p m c cc nL s args R_D D (tysD ca)) (I : In D A H0 (wD ca ad τ) H locs) (hj : (0 < j ∧ j < 13) ∧ j ≠ 3 ∧ j ≠ 4) (hN : msz j = N) (hin : vp_in i N) (hdg : decode cc pc = .ok (.iaload, 1))
    (kk : W p l e R s m args below meth c H locs cells slots Q (F0 m (pc + 1) ls (.int (am τ j i.toNatClampNeg) :: rest))) : W p l e R s m args below meth c H locs cells slots Q (F0 m pc ls (.int i :: .ref (ad j) :: rest)) :=
  gIald X I j 0 hj.1.2 (by rw [cD_a (by omega), hN, mcl_i hj.2]) rfl hin hdg kk
theorem dZald (j : Nat) {i : Int32} (X : Cx p m c cc nL s args R_D D (tysD ca)) (I : In D A H0 (wD ca ad τ) H locs) (hj : j = 3 ∨ j = 4) (hin : vp_in i 2) (hdg : decode cc pc = .ok (.baload, 1))
    (kk : W p l e R s m args below meth c H locs cells slots Q (F0 m (pc + 1) ls (.int (am τ j i.toNatClampNeg) :: rest))) : W p l e R s m args below meth c H locs cells slots Q (F0 m pc ls (.int i :: .ref (ad j) :: rest)) :=
  gZald X I j 1 (by omega) (by rw [cD_a (by omega), mcl_z hj, show msz j = 2 by unfold msz; rw [if_pos (by omega)]]) rfl hin hdg kk
theorem dIast (j : Nat) {N : Nat} {i x : Int32} (X : Cx p m c cc nL s args R_D D (tysD ca)) (I : In D A H0 (wD ca ad τ) H locs) (hj : (0 < j ∧ j < 13) ∧ j ≠ 3 ∧ j ≠ 4) (hN : msz j = N) (hin : vp_in i N) (hdg : decode cc pc = .ok (.iastore, 1))
    (kk : ∀ (H1 : Heap) (locs1 : List Loc), In D A H0 (wD ca ad (da τ j i.toNatClampNeg x)) H1 locs1 → W p l e R s m args below meth c H1 locs1 cells slots Q (F0 m (pc + 1) ls rest)) : W p l e R s m args below meth c H locs cells slots Q (F0 m pc ls (.int x :: .int i :: .ref (ad j) :: rest)) :=
  gIast X I j 0 hj.1.2 (by rw [cD_a (by omega), hN, mcl_i hj.2]) rfl hin (cD ca ad (da τ j i.toNatClampNeg x)) (by rw [cD_a (by omega), hN, mcl_i hj.2, am_s]) cD_oa hdg kk
theorem dZast (j : Nat) {i x : Int32} (X : Cx p m c cc nL s args R_D D (tysD ca)) (I : In D A H0 (wD ca ad τ) H locs) (hj : j = 3 ∨ j = 4) (hin : vp_in i 2) (hx : vp_nar .boolean x = x) (hdg : decode cc pc = .ok (.bastore, 1))
    (kk : ∀ (H1 : Heap) (locs1 : List Loc), In D A H0 (wD ca ad (da τ j i.toNatClampNeg x)) H1 locs1 → W p l e R s m args below meth c H1 locs1 cells slots Q (F0 m (pc + 1) ls rest)) : W p l e R s m args below meth c H locs cells slots Q (F0 m pc ls (.int x :: .int i :: .ref (ad j) :: rest)) :=
  have hN : msz j = 2 := by unfold msz; rw [if_pos (by omega)]
  gZast X I j 1 (by omega) (by rw [cD_a (by omega), hN, mcl_z hj]) rfl hin hx (cD ca ad (da τ j i.toNatClampNeg x)) (by rw [cD_a (by omega), hN, mcl_z hj, am_s]) cD_oa hdg kk
end RD
end
section
theorem d_T_init_0 : decode b_T_init 0 = .ok (.aload_n 0, 1) := by decide +kernel
theorem d_T_init_1 : decode b_T_init 1 = .ok (.invokespecial 1, 3) := by decide +kernel
theorem d_T_init_4 : decode b_T_init 4 = .ok (.aload_n 0, 1) := by decide +kernel
theorem d_T_init_5 : decode b_T_init 5 = .ok (.iconst 2, 1) := by decide +kernel
theorem d_T_init_6 : decode b_T_init 6 = .ok (.anewarray 7, 3) := by decide +kernel
theorem d_T_init_9 : decode b_T_init 9 = .ok (.dup, 1) := by decide +kernel
theorem d_T_init_10 : decode b_T_init 10 = .ok (.iconst 0, 1) := by decide +kernel
theorem d_T_init_11 : decode b_T_init 11 = .ok (.new 7, 3) := by decide +kernel
theorem d_T_init_14 : decode b_T_init 14 = .ok (.dup, 1) := by decide +kernel
theorem d_T_init_15 : decode b_T_init 15 = .ok (.invokespecial 9, 3) := by decide +kernel
theorem d_T_init_18 : decode b_T_init 18 = .ok (.aastore, 1) := by decide +kernel
theorem d_T_init_19 : decode b_T_init 19 = .ok (.dup, 1) := by decide +kernel
theorem d_T_init_20 : decode b_T_init 20 = .ok (.iconst 1, 1) := by decide +kernel
theorem d_T_init_21 : decode b_T_init 21 = .ok (.new 7, 3) := by decide +kernel
theorem d_T_init_24 : decode b_T_init 24 = .ok (.dup, 1) := by decide +kernel
theorem d_T_init_25 : decode b_T_init 25 = .ok (.invokespecial 9, 3) := by decide +kernel
theorem d_T_init_28 : decode b_T_init 28 = .ok (.aastore, 1) := by decide +kernel
theorem d_T_init_29 : decode b_T_init 29 = .ok (.putfield 10, 3) := by decide +kernel
theorem d_T_init_32 : decode b_T_init 32 = .ok (.aload_n 0, 1) := by decide +kernel
theorem d_T_init_33 : decode b_T_init 33 = .ok (.bipush 17, 2) := by decide +kernel
theorem d_T_init_35 : decode b_T_init 35 = .ok (.anewarray 16, 3) := by decide +kernel
theorem d_T_init_38 : decode b_T_init 38 = .ok (.putfield 18, 3) := by decide +kernel
theorem d_T_init_41 : decode b_T_init 41 = .ok (.iconst 0, 1) := by decide +kernel
theorem d_T_init_42 : decode b_T_init 42 = .ok (.istore_n 1, 1) := by decide +kernel
theorem d_T_init_43 : decode b_T_init 43 = .ok (.iload_n 1, 1) := by decide +kernel
theorem d_T_init_44 : decode b_T_init 44 = .ok (.aload_n 0, 1) := by decide +kernel
theorem d_T_init_45 : decode b_T_init 45 = .ok (.getfield 18, 3) := by decide +kernel
theorem d_T_init_48 : decode b_T_init 48 = .ok (.arraylength, 1) := by decide +kernel
theorem d_T_init_49 : decode b_T_init 49 = .ok (.if_icmp .ge 22, 3) := by decide +kernel
theorem d_T_init_52 : decode b_T_init 52 = .ok (.aload_n 0, 1) := by decide +kernel
theorem d_T_init_53 : decode b_T_init 53 = .ok (.getfield 18, 3) := by decide +kernel
theorem d_T_init_56 : decode b_T_init 56 = .ok (.iload_n 1, 1) := by decide +kernel
theorem d_T_init_57 : decode b_T_init 57 = .ok (.new 16, 3) := by decide +kernel
theorem d_T_init_60 : decode b_T_init 60 = .ok (.dup, 1) := by decide +kernel
theorem d_T_init_61 : decode b_T_init 61 = .ok (.invokespecial 22, 3) := by decide +kernel
theorem d_T_init_64 : decode b_T_init 64 = .ok (.aastore, 1) := by decide +kernel
theorem d_T_init_65 : decode b_T_init 65 = .ok (.iinc 1 1, 3) := by decide +kernel
theorem d_T_init_68 : decode b_T_init 68 = .ok (.goto (-25), 3) := by decide +kernel
theorem d_T_init_71 : decode b_T_init 71 = .ok (.aload_n 0, 1) := by decide +kernel
theorem d_T_init_72 : decode b_T_init 72 = .ok (.getfield 10, 3) := by decide +kernel
theorem d_T_init_75 : decode b_T_init 75 = .ok (.iconst 0, 1) := by decide +kernel
theorem d_T_init_76 : decode b_T_init 76 = .ok (.aaload, 1) := by decide +kernel
theorem d_T_init_77 : decode b_T_init 77 = .ok (.iconst 2, 1) := by decide +kernel
theorem d_T_init_78 : decode b_T_init 78 = .ok (.putfield 23, 3) := by decide +kernel
theorem d_T_init_81 : decode b_T_init 81 = .ok (.aload_n 0, 1) := by decide +kernel
theorem d_T_init_82 : decode b_T_init 82 = .ok (.getfield 10, 3) := by decide +kernel
theorem d_T_init_85 : decode b_T_init 85 = .ok (.iconst 0, 1) := by decide +kernel
theorem d_T_init_86 : decode b_T_init 86 = .ok (.aaload, 1) := by decide +kernel
theorem d_T_init_87 : decode b_T_init 87 = .ok (.iconst 1, 1) := by decide +kernel
theorem d_T_init_88 : decode b_T_init 88 = .ok (.putfield 27, 3) := by decide +kernel
theorem d_T_init_91 : decode b_T_init 91 = .ok (.return_, 1) := by decide +kernel
theorem d_T_isNode_0 : decode b_T_isNode 0 = .ok (.iload_n 0, 1) := by decide +kernel
theorem d_T_isNode_1 : decode b_T_isNode 1 = .ok (.ifCond .eq 8, 3) := by decide +kernel
theorem d_T_isNode_4 : decode b_T_isNode 4 = .ok (.iload_n 0, 1) := by decide +kernel
theorem d_T_isNode_5 : decode b_T_isNode 5 = .ok (.iconst 1, 1) := by decide +kernel
theorem d_T_isNode_6 : decode b_T_isNode 6 = .ok (.if_icmp .ne 7, 3) := by decide +kernel
theorem d_T_isNode_9 : decode b_T_isNode 9 = .ok (.iconst 1, 1) := by decide +kernel
theorem d_T_isNode_10 : decode b_T_isNode 10 = .ok (.goto 4, 3) := by decide +kernel
theorem d_T_isNode_13 : decode b_T_isNode 13 = .ok (.iconst 0, 1) := by decide +kernel
theorem d_T_isNode_14 : decode b_T_isNode 14 = .ok (.ireturn, 1) := by decide +kernel
theorem d_T_send_0 : decode b_T_send 0 = .ok (.aload_n 0, 1) := by decide +kernel
theorem d_T_send_1 : decode b_T_send 1 = .ok (.getfield 31, 3) := by decide +kernel
theorem d_T_send_4 : decode b_T_send 4 = .ok (.bipush 16, 2) := by decide +kernel
theorem d_T_send_6 : decode b_T_send 6 = .ok (.if_icmp .ne 5, 3) := by decide +kernel
theorem d_T_send_9 : decode b_T_send 9 = .ok (.aconst_null, 1) := by decide +kernel
theorem d_T_send_10 : decode b_T_send 10 = .ok (.areturn, 1) := by decide +kernel
theorem d_T_send_11 : decode b_T_send 11 = .ok (.aload_n 0, 1) := by decide +kernel
theorem d_T_send_12 : decode b_T_send 12 = .ok (.getfield 18, 3) := by decide +kernel
theorem d_T_send_15 : decode b_T_send 15 = .ok (.aload_n 0, 1) := by decide +kernel
theorem d_T_send_16 : decode b_T_send 16 = .ok (.getfield 31, 3) := by decide +kernel
theorem d_T_send_19 : decode b_T_send 19 = .ok (.aaload, 1) := by decide +kernel
theorem d_T_send_20 : decode b_T_send 20 = .ok (.astore 4, 2) := by decide +kernel
theorem d_T_send_22 : decode b_T_send 22 = .ok (.aload_n 0, 1) := by decide +kernel
theorem d_T_send_23 : decode b_T_send 23 = .ok (.dup, 1) := by decide +kernel
theorem d_T_send_24 : decode b_T_send 24 = .ok (.getfield 31, 3) := by decide +kernel
theorem d_T_send_27 : decode b_T_send 27 = .ok (.iconst 1, 1) := by decide +kernel
theorem d_T_send_28 : decode b_T_send 28 = .ok (.iadd, 1) := by decide +kernel
theorem d_T_send_29 : decode b_T_send 29 = .ok (.putfield 31, 3) := by decide +kernel
theorem d_T_send_32 : decode b_T_send 32 = .ok (.aload 4, 2) := by decide +kernel
theorem d_T_send_34 : decode b_T_send 34 = .ok (.iload_n 2, 1) := by decide +kernel
theorem d_T_send_35 : decode b_T_send 35 = .ok (.putfield 34, 3) := by decide +kernel
theorem d_T_send_38 : decode b_T_send 38 = .ok (.aload 4, 2) := by decide +kernel
theorem d_T_send_40 : decode b_T_send 40 = .ok (.iconst 1, 1) := by decide +kernel
theorem d_T_send_41 : decode b_T_send 41 = .ok (.iload_n 1, 1) := by decide +kernel
theorem d_T_send_42 : decode b_T_send 42 = .ok (.isub, 1) := by decide +kernel
theorem d_T_send_43 : decode b_T_send 43 = .ok (.putfield 37, 3) := by decide +kernel
theorem d_T_send_46 : decode b_T_send 46 = .ok (.aload 4, 2) := by decide +kernel
theorem d_T_send_48 : decode b_T_send 48 = .ok (.aload_n 0, 1) := by decide +kernel
theorem d_T_send_49 : decode b_T_send 49 = .ok (.getfield 10, 3) := by decide +kernel
theorem d_T_send_52 : decode b_T_send 52 = .ok (.iload_n 1, 1) := by decide +kernel
theorem d_T_send_53 : decode b_T_send 53 = .ok (.aaload, 1) := by decide +kernel
theorem d_T_send_54 : decode b_T_send 54 = .ok (.getfield 23, 3) := by decide +kernel
theorem d_T_send_57 : decode b_T_send 57 = .ok (.putfield 40, 3) := by decide +kernel
theorem d_T_send_60 : decode b_T_send 60 = .ok (.aload 4, 2) := by decide +kernel
theorem d_T_send_62 : decode b_T_send 62 = .ok (.iload_n 3, 1) := by decide +kernel
theorem d_T_send_63 : decode b_T_send 63 = .ok (.putfield 41, 3) := by decide +kernel
theorem d_T_send_66 : decode b_T_send 66 = .ok (.aload 4, 2) := by decide +kernel
theorem d_T_send_68 : decode b_T_send 68 = .ok (.areturn, 1) := by decide +kernel
theorem d_T_ship_0 : decode b_T_ship 0 = .ok (.aload_n 0, 1) := by decide +kernel
theorem d_T_ship_1 : decode b_T_ship 1 = .ok (.iload_n 1, 1) := by decide +kernel
theorem d_T_ship_2 : decode b_T_ship 2 = .ok (.iconst 1, 1) := by decide +kernel
theorem d_T_ship_3 : decode b_T_ship 3 = .ok (.iload_n 2, 1) := by decide +kernel
theorem d_T_ship_4 : decode b_T_ship 4 = .ok (.invokevirtual 44, 3) := by decide +kernel
theorem d_T_ship_7 : decode b_T_ship 7 = .ok (.astore_n 3, 1) := by decide +kernel
theorem d_T_ship_8 : decode b_T_ship 8 = .ok (.aload_n 3, 1) := by decide +kernel
theorem d_T_ship_9 : decode b_T_ship 9 = .ok (.ifnonnull 4, 3) := by decide +kernel
theorem d_T_ship_12 : decode b_T_ship 12 = .ok (.return_, 1) := by decide +kernel
theorem d_T_ship_13 : decode b_T_ship 13 = .ok (.aload_n 0, 1) := by decide +kernel
theorem d_T_ship_14 : decode b_T_ship 14 = .ok (.getfield 10, 3) := by decide +kernel
theorem d_T_ship_17 : decode b_T_ship 17 = .ok (.iload_n 1, 1) := by decide +kernel
theorem d_T_ship_18 : decode b_T_ship 18 = .ok (.aaload, 1) := by decide +kernel
theorem d_T_ship_19 : decode b_T_ship 19 = .ok (.astore 4, 2) := by decide +kernel
theorem d_T_ship_21 : decode b_T_ship 21 = .ok (.aload_n 3, 1) := by decide +kernel
theorem d_T_ship_22 : decode b_T_ship 22 = .ok (.aload 4, 2) := by decide +kernel
theorem d_T_ship_24 : decode b_T_ship 24 = .ok (.iload_n 2, 1) := by decide +kernel
theorem d_T_ship_25 : decode b_T_ship 25 = .ok (.iconst 1, 1) := by decide +kernel
theorem d_T_ship_26 : decode b_T_ship 26 = .ok (.isub, 1) := by decide +kernel
theorem d_T_ship_27 : decode b_T_ship 27 = .ok (.invokevirtual 48, 3) := by decide +kernel
theorem d_T_ship_30 : decode b_T_ship 30 = .ok (.putfield 52, 3) := by decide +kernel
theorem d_T_ship_33 : decode b_T_ship 33 = .ok (.aload_n 3, 1) := by decide +kernel
theorem d_T_ship_34 : decode b_T_ship 34 = .ok (.aload 4, 2) := by decide +kernel
theorem d_T_ship_36 : decode b_T_ship 36 = .ok (.getfield 55, 3) := by decide +kernel
theorem d_T_ship_39 : decode b_T_ship 39 = .ok (.putfield 58, 3) := by decide +kernel
theorem d_T_ship_42 : decode b_T_ship 42 = .ok (.aload_n 3, 1) := by decide +kernel
theorem d_T_ship_43 : decode b_T_ship 43 = .ok (.aload 4, 2) := by decide +kernel
theorem d_T_ship_45 : decode b_T_ship 45 = .ok (.getfield 59, 3) := by decide +kernel
theorem d_T_ship_48 : decode b_T_ship 48 = .ok (.iload_n 2, 1) := by decide +kernel
theorem d_T_ship_49 : decode b_T_ship 49 = .ok (.iaload, 1) := by decide +kernel
theorem d_T_ship_50 : decode b_T_ship 50 = .ok (.putfield 63, 3) := by decide +kernel
theorem d_T_ship_53 : decode b_T_ship 53 = .ok (.aload_n 3, 1) := by decide +kernel
theorem d_T_ship_54 : decode b_T_ship 54 = .ok (.aload 4, 2) := by decide +kernel
theorem d_T_ship_56 : decode b_T_ship 56 = .ok (.getfield 66, 3) := by decide +kernel
theorem d_T_ship_59 : decode b_T_ship 59 = .ok (.iload_n 2, 1) := by decide +kernel
theorem d_T_ship_60 : decode b_T_ship 60 = .ok (.iaload, 1) := by decide +kernel
theorem d_T_ship_61 : decode b_T_ship 61 = .ok (.putfield 69, 3) := by decide +kernel
theorem d_T_ship_64 : decode b_T_ship 64 = .ok (.aload_n 3, 1) := by decide +kernel
theorem d_T_ship_65 : decode b_T_ship 65 = .ok (.aload 4, 2) := by decide +kernel
theorem d_T_ship_67 : decode b_T_ship 67 = .ok (.getfield 72, 3) := by decide +kernel
theorem d_T_ship_70 : decode b_T_ship 70 = .ok (.iload_n 2, 1) := by decide +kernel
theorem d_T_ship_71 : decode b_T_ship 71 = .ok (.iaload, 1) := by decide +kernel
theorem d_T_ship_72 : decode b_T_ship 72 = .ok (.putfield 75, 3) := by decide +kernel
theorem d_T_ship_75 : decode b_T_ship 75 = .ok (.return_, 1) := by decide +kernel
theorem d_T_put_0 : decode b_T_put 0 = .ok (.iload_n 1, 1) := by decide +kernel
theorem d_T_put_1 : decode b_T_put 1 = .ok (.invokestatic 78, 3) := by decide +kernel
theorem d_T_put_4 : decode b_T_put 4 = .ok (.ifCond .eq 13, 3) := by decide +kernel
theorem d_T_put_7 : decode b_T_put 7 = .ok (.iload_n 2, 1) := by decide +kernel
theorem d_T_put_8 : decode b_T_put 8 = .ok (.ifCond .lt 9, 3) := by decide +kernel
theorem d_T_put_11 : decode b_T_put 11 = .ok (.iload_n 2, 1) := by decide +kernel
theorem d_T_put_12 : decode b_T_put 12 = .ok (.bipush 16, 2) := by decide +kernel
theorem d_T_put_14 : decode b_T_put 14 = .ok (.if_icmp .lt 5, 3) := by decide +kernel
theorem d_T_put_17 : decode b_T_put 17 = .ok (.iconst (-1), 1) := by decide +kernel
theorem d_T_put_18 : decode b_T_put 18 = .ok (.ireturn, 1) := by decide +kernel
theorem d_T_put_19 : decode b_T_put 19 = .ok (.aload_n 0, 1) := by decide +kernel
theorem d_T_put_20 : decode b_T_put 20 = .ok (.getfield 10, 3) := by decide +kernel
theorem d_T_put_23 : decode b_T_put 23 = .ok (.iload_n 1, 1) := by decide +kernel
theorem d_T_put_24 : decode b_T_put 24 = .ok (.aaload, 1) := by decide +kernel
theorem d_T_put_25 : decode b_T_put 25 = .ok (.astore 4, 2) := by decide +kernel
theorem d_T_put_27 : decode b_T_put 27 = .ok (.aload 4, 2) := by decide +kernel
theorem d_T_put_29 : decode b_T_put 29 = .ok (.getfield 82, 3) := by decide +kernel
theorem d_T_put_32 : decode b_T_put 32 = .ok (.ifCond .ne 6, 3) := by decide +kernel
theorem d_T_put_35 : decode b_T_put 35 = .ok (.bipush (-4), 2) := by decide +kernel
theorem d_T_put_37 : decode b_T_put 37 = .ok (.ireturn, 1) := by decide +kernel
theorem d_T_put_38 : decode b_T_put 38 = .ok (.aload 4, 2) := by decide +kernel
theorem d_T_put_40 : decode b_T_put 40 = .ok (.getfield 27, 3) := by decide +kernel
theorem d_T_put_43 : decode b_T_put 43 = .ok (.ifCond .ne 6, 3) := by decide +kernel
theorem d_T_put_46 : decode b_T_put 46 = .ok (.bipush (-2), 2) := by decide +kernel
theorem d_T_put_48 : decode b_T_put 48 = .ok (.ireturn, 1) := by decide +kernel
theorem d_T_put_49 : decode b_T_put 49 = .ok (.aload 4, 2) := by decide +kernel
theorem d_T_put_51 : decode b_T_put 51 = .ok (.getfield 55, 3) := by decide +kernel
theorem d_T_put_54 : decode b_T_put 54 = .ok (.bipush 64, 2) := by decide +kernel
theorem d_T_put_56 : decode b_T_put 56 = .ok (.if_icmp .eq 12, 3) := by decide +kernel
theorem d_T_put_59 : decode b_T_put 59 = .ok (.aload_n 0, 1) := by decide +kernel
theorem d_T_put_60 : decode b_T_put 60 = .ok (.getfield 31, 3) := by decide +kernel
theorem d_T_put_63 : decode b_T_put 63 = .ok (.bipush 16, 2) := by decide +kernel
theorem d_T_put_65 : decode b_T_put 65 = .ok (.if_icmp .ne 6, 3) := by decide +kernel
theorem d_T_put_68 : decode b_T_put 68 = .ok (.bipush (-3), 2) := by decide +kernel
theorem d_T_put_70 : decode b_T_put 70 = .ok (.ireturn, 1) := by decide +kernel
theorem d_T_put_71 : decode b_T_put 71 = .ok (.aload 4, 2) := by decide +kernel
theorem d_T_put_73 : decode b_T_put 73 = .ok (.aload 4, 2) := by decide +kernel
theorem d_T_put_75 : decode b_T_put 75 = .ok (.getfield 23, 3) := by decide +kernel
theorem d_T_put_78 : decode b_T_put 78 = .ok (.iload_n 2, 1) := by decide +kernel
theorem d_T_put_79 : decode b_T_put 79 = .ok (.iload_n 3, 1) := by decide +kernel
theorem d_T_put_80 : decode b_T_put 80 = .ok (.invokevirtual 85, 3) := by decide +kernel
theorem d_T_put_83 : decode b_T_put 83 = .ok (.ifCond .ne 6, 3) := by decide +kernel
theorem d_T_put_86 : decode b_T_put 86 = .ok (.bipush (-4), 2) := by decide +kernel
theorem d_T_put_88 : decode b_T_put 88 = .ok (.ireturn, 1) := by decide +kernel
theorem d_T_put_89 : decode b_T_put 89 = .ok (.aload_n 0, 1) := by decide +kernel
theorem d_T_put_90 : decode b_T_put 90 = .ok (.iload_n 1, 1) := by decide +kernel
theorem d_T_put_91 : decode b_T_put 91 = .ok (.aload 4, 2) := by decide +kernel
theorem d_T_put_93 : decode b_T_put 93 = .ok (.getfield 55, 3) := by decide +kernel
theorem d_T_put_96 : decode b_T_put 96 = .ok (.iconst 1, 1) := by decide +kernel
theorem d_T_put_97 : decode b_T_put 97 = .ok (.isub, 1) := by decide +kernel
theorem d_T_put_98 : decode b_T_put 98 = .ok (.invokevirtual 89, 3) := by decide +kernel
theorem d_T_put_101 : decode b_T_put 101 = .ok (.aload 4, 2) := by decide +kernel
theorem d_T_put_103 : decode b_T_put 103 = .ok (.getfield 55, 3) := by decide +kernel
theorem d_T_put_106 : decode b_T_put 106 = .ok (.iconst 1, 1) := by decide +kernel
theorem d_T_put_107 : decode b_T_put 107 = .ok (.isub, 1) := by decide +kernel
theorem d_T_put_108 : decode b_T_put 108 = .ok (.ireturn, 1) := by decide +kernel
theorem d_T_get_0 : decode b_T_get 0 = .ok (.iload_n 1, 1) := by decide +kernel
theorem d_T_get_1 : decode b_T_get 1 = .ok (.invokestatic 78, 3) := by decide +kernel
theorem d_T_get_4 : decode b_T_get 4 = .ok (.ifCond .eq 13, 3) := by decide +kernel
theorem d_T_get_7 : decode b_T_get 7 = .ok (.iload_n 2, 1) := by decide +kernel
theorem d_T_get_8 : decode b_T_get 8 = .ok (.ifCond .lt 9, 3) := by decide +kernel
theorem d_T_get_11 : decode b_T_get 11 = .ok (.iload_n 2, 1) := by decide +kernel
theorem d_T_get_12 : decode b_T_get 12 = .ok (.bipush 16, 2) := by decide +kernel
theorem d_T_get_14 : decode b_T_get 14 = .ok (.if_icmp .lt 5, 3) := by decide +kernel
theorem d_T_get_17 : decode b_T_get 17 = .ok (.iconst (-1), 1) := by decide +kernel
theorem d_T_get_18 : decode b_T_get 18 = .ok (.ireturn, 1) := by decide +kernel
theorem d_T_get_19 : decode b_T_get 19 = .ok (.aload_n 0, 1) := by decide +kernel
theorem d_T_get_20 : decode b_T_get 20 = .ok (.getfield 10, 3) := by decide +kernel
theorem d_T_get_23 : decode b_T_get 23 = .ok (.iload_n 1, 1) := by decide +kernel
theorem d_T_get_24 : decode b_T_get 24 = .ok (.aaload, 1) := by decide +kernel
theorem d_T_get_25 : decode b_T_get 25 = .ok (.astore_n 3, 1) := by decide +kernel
theorem d_T_get_26 : decode b_T_get 26 = .ok (.aload_n 3, 1) := by decide +kernel
theorem d_T_get_27 : decode b_T_get 27 = .ok (.getfield 55, 3) := by decide +kernel
theorem d_T_get_30 : decode b_T_get 30 = .ok (.iconst 1, 1) := by decide +kernel
theorem d_T_get_31 : decode b_T_get 31 = .ok (.isub, 1) := by decide +kernel
theorem d_T_get_32 : decode b_T_get 32 = .ok (.istore 4, 2) := by decide +kernel
theorem d_T_get_34 : decode b_T_get 34 = .ok (.iload 4, 2) := by decide +kernel
theorem d_T_get_36 : decode b_T_get 36 = .ok (.ifCond .lt 20, 3) := by decide +kernel
theorem d_T_get_39 : decode b_T_get 39 = .ok (.aload_n 3, 1) := by decide +kernel
theorem d_T_get_40 : decode b_T_get 40 = .ok (.getfield 66, 3) := by decide +kernel
theorem d_T_get_43 : decode b_T_get 43 = .ok (.iload 4, 2) := by decide +kernel
theorem d_T_get_45 : decode b_T_get 45 = .ok (.iaload, 1) := by decide +kernel
theorem d_T_get_46 : decode b_T_get 46 = .ok (.iload_n 2, 1) := by decide +kernel
theorem d_T_get_47 : decode b_T_get 47 = .ok (.if_icmp .eq 9, 3) := by decide +kernel
theorem d_T_get_50 : decode b_T_get 50 = .ok (.iinc 4 (-1), 3) := by decide +kernel
theorem d_T_get_53 : decode b_T_get 53 = .ok (.goto (-19), 3) := by decide +kernel
theorem d_T_get_56 : decode b_T_get 56 = .ok (.iload 4, 2) := by decide +kernel
theorem d_T_get_58 : decode b_T_get 58 = .ok (.ifCond .ge 7, 3) := by decide +kernel
theorem d_T_get_61 : decode b_T_get 61 = .ok (.iconst 0, 1) := by decide +kernel
theorem d_T_get_62 : decode b_T_get 62 = .ok (.goto 10, 3) := by decide +kernel
theorem d_T_get_65 : decode b_T_get 65 = .ok (.aload_n 3, 1) := by decide +kernel
theorem d_T_get_66 : decode b_T_get 66 = .ok (.getfield 72, 3) := by decide +kernel
theorem d_T_get_69 : decode b_T_get 69 = .ok (.iload 4, 2) := by decide +kernel
theorem d_T_get_71 : decode b_T_get 71 = .ok (.iaload, 1) := by decide +kernel
theorem d_T_get_72 : decode b_T_get 72 = .ok (.ireturn, 1) := by decide +kernel
theorem d_T_take_0 : decode b_T_take 0 = .ok (.aload_n 0, 1) := by decide +kernel
theorem d_T_take_1 : decode b_T_take 1 = .ok (.getfield 18, 3) := by decide +kernel
theorem d_T_take_4 : decode b_T_take 4 = .ok (.iload_n 1, 1) := by decide +kernel
theorem d_T_take_5 : decode b_T_take 5 = .ok (.aaload, 1) := by decide +kernel
theorem d_T_take_6 : decode b_T_take 6 = .ok (.astore_n 2, 1) := by decide +kernel
theorem d_T_take_7 : decode b_T_take 7 = .ok (.iload_n 1, 1) := by decide +kernel
theorem d_T_take_8 : decode b_T_take 8 = .ok (.istore_n 3, 1) := by decide +kernel
theorem d_T_take_9 : decode b_T_take 9 = .ok (.iload_n 3, 1) := by decide +kernel
theorem d_T_take_10 : decode b_T_take 10 = .ok (.bipush 16, 2) := by decide +kernel
theorem d_T_take_12 : decode b_T_take 12 = .ok (.if_icmp .ge 23, 3) := by decide +kernel
theorem d_T_take_15 : decode b_T_take 15 = .ok (.aload_n 0, 1) := by decide +kernel
theorem d_T_take_16 : decode b_T_take 16 = .ok (.getfield 18, 3) := by decide +kernel
theorem d_T_take_19 : decode b_T_take 19 = .ok (.iload_n 3, 1) := by decide +kernel
theorem d_T_take_20 : decode b_T_take 20 = .ok (.aload_n 0, 1) := by decide +kernel
theorem d_T_take_21 : decode b_T_take 21 = .ok (.getfield 18, 3) := by decide +kernel
theorem d_T_take_24 : decode b_T_take 24 = .ok (.iload_n 3, 1) := by decide +kernel
theorem d_T_take_25 : decode b_T_take 25 = .ok (.iconst 1, 1) := by decide +kernel
theorem d_T_take_26 : decode b_T_take 26 = .ok (.iadd, 1) := by decide +kernel
theorem d_T_take_27 : decode b_T_take 27 = .ok (.aaload, 1) := by decide +kernel
theorem d_T_take_28 : decode b_T_take 28 = .ok (.aastore, 1) := by decide +kernel
theorem d_T_take_29 : decode b_T_take 29 = .ok (.iinc 3 1, 3) := by decide +kernel
theorem d_T_take_32 : decode b_T_take 32 = .ok (.goto (-23), 3) := by decide +kernel
theorem d_T_take_35 : decode b_T_take 35 = .ok (.aload_n 0, 1) := by decide +kernel
theorem d_T_take_36 : decode b_T_take 36 = .ok (.getfield 18, 3) := by decide +kernel
theorem d_T_take_39 : decode b_T_take 39 = .ok (.bipush 16, 2) := by decide +kernel
theorem d_T_take_41 : decode b_T_take 41 = .ok (.aload_n 2, 1) := by decide +kernel
theorem d_T_take_42 : decode b_T_take 42 = .ok (.aastore, 1) := by decide +kernel
theorem d_T_take_43 : decode b_T_take 43 = .ok (.aload_n 0, 1) := by decide +kernel
theorem d_T_take_44 : decode b_T_take 44 = .ok (.dup, 1) := by decide +kernel
theorem d_T_take_45 : decode b_T_take 45 = .ok (.getfield 31, 3) := by decide +kernel
theorem d_T_take_48 : decode b_T_take 48 = .ok (.iconst 1, 1) := by decide +kernel
theorem d_T_take_49 : decode b_T_take 49 = .ok (.isub, 1) := by decide +kernel
theorem d_T_take_50 : decode b_T_take 50 = .ok (.putfield 31, 3) := by decide +kernel
theorem d_T_take_53 : decode b_T_take 53 = .ok (.aload_n 2, 1) := by decide +kernel
theorem d_T_take_54 : decode b_T_take 54 = .ok (.areturn, 1) := by decide +kernel
theorem d_T_drop_0 : decode b_T_drop 0 = .ok (.iload_n 1, 1) := by decide +kernel
theorem d_T_drop_1 : decode b_T_drop 1 = .ok (.ifCond .lt 11, 3) := by decide +kernel
theorem d_T_drop_4 : decode b_T_drop 4 = .ok (.iload_n 1, 1) := by decide +kernel
theorem d_T_drop_5 : decode b_T_drop 5 = .ok (.aload_n 0, 1) := by decide +kernel
theorem d_T_drop_6 : decode b_T_drop 6 = .ok (.getfield 31, 3) := by decide +kernel
theorem d_T_drop_9 : decode b_T_drop 9 = .ok (.if_icmp .lt 5, 3) := by decide +kernel
theorem d_T_drop_12 : decode b_T_drop 12 = .ok (.iconst 0, 1) := by decide +kernel
theorem d_T_drop_13 : decode b_T_drop 13 = .ok (.ireturn, 1) := by decide +kernel
theorem d_T_drop_14 : decode b_T_drop 14 = .ok (.aload_n 0, 1) := by decide +kernel
theorem d_T_drop_15 : decode b_T_drop 15 = .ok (.iload_n 1, 1) := by decide +kernel
theorem d_T_drop_16 : decode b_T_drop 16 = .ok (.invokevirtual 93, 3) := by decide +kernel
theorem d_T_drop_19 : decode b_T_drop 19 = .ok (.pop, 1) := by decide +kernel
theorem d_T_drop_20 : decode b_T_drop 20 = .ok (.iconst 1, 1) := by decide +kernel
theorem d_T_drop_21 : decode b_T_drop 21 = .ok (.ireturn, 1) := by decide +kernel
theorem d_T_pump_0 : decode b_T_pump 0 = .ok (.aload_n 0, 1) := by decide +kernel
theorem d_T_pump_1 : decode b_T_pump 1 = .ok (.getfield 31, 3) := by decide +kernel
theorem d_T_pump_4 : decode b_T_pump 4 = .ok (.ifCond .ne 5, 3) := by decide +kernel
theorem d_T_pump_7 : decode b_T_pump 7 = .ok (.iconst 0, 1) := by decide +kernel
theorem d_T_pump_8 : decode b_T_pump 8 = .ok (.ireturn, 1) := by decide +kernel
theorem d_T_pump_9 : decode b_T_pump 9 = .ok (.aload_n 0, 1) := by decide +kernel
theorem d_T_pump_10 : decode b_T_pump 10 = .ok (.iconst 0, 1) := by decide +kernel
theorem d_T_pump_11 : decode b_T_pump 11 = .ok (.invokevirtual 93, 3) := by decide +kernel
theorem d_T_pump_14 : decode b_T_pump 14 = .ok (.astore_n 1, 1) := by decide +kernel
theorem d_T_pump_15 : decode b_T_pump 15 = .ok (.aload_n 0, 1) := by decide +kernel
theorem d_T_pump_16 : decode b_T_pump 16 = .ok (.getfield 10, 3) := by decide +kernel
theorem d_T_pump_19 : decode b_T_pump 19 = .ok (.aload_n 1, 1) := by decide +kernel
theorem d_T_pump_20 : decode b_T_pump 20 = .ok (.getfield 37, 3) := by decide +kernel
theorem d_T_pump_23 : decode b_T_pump 23 = .ok (.aaload, 1) := by decide +kernel
theorem d_T_pump_24 : decode b_T_pump 24 = .ok (.astore_n 2, 1) := by decide +kernel
theorem d_T_pump_25 : decode b_T_pump 25 = .ok (.aload_n 2, 1) := by decide +kernel
theorem d_T_pump_26 : decode b_T_pump 26 = .ok (.getfield 82, 3) := by decide +kernel
theorem d_T_pump_29 : decode b_T_pump 29 = .ok (.ifCond .ne 11, 3) := by decide +kernel
theorem d_T_pump_32 : decode b_T_pump 32 = .ok (.aload_n 1, 1) := by decide +kernel
theorem d_T_pump_33 : decode b_T_pump 33 = .ok (.getfield 34, 3) := by decide +kernel
theorem d_T_pump_36 : decode b_T_pump 36 = .ok (.bipush 10, 2) := by decide +kernel
theorem d_T_pump_38 : decode b_T_pump 38 = .ok (.iadd, 1) := by decide +kernel
theorem d_T_pump_39 : decode b_T_pump 39 = .ok (.ireturn, 1) := by decide +kernel
theorem d_T_pump_40 : decode b_T_pump 40 = .ok (.aload_n 1, 1) := by decide +kernel
theorem d_T_pump_41 : decode b_T_pump 41 = .ok (.getfield 40, 3) := by decide +kernel
theorem d_T_pump_44 : decode b_T_pump 44 = .ok (.aload_n 2, 1) := by decide +kernel
theorem d_T_pump_45 : decode b_T_pump 45 = .ok (.getfield 23, 3) := by decide +kernel
theorem d_T_pump_48 : decode b_T_pump 48 = .ok (.if_icmp .ge 30, 3) := by decide +kernel
theorem d_T_pump_51 : decode b_T_pump 51 = .ok (.aload_n 1, 1) := by decide +kernel
theorem d_T_pump_52 : decode b_T_pump 52 = .ok (.getfield 34, 3) := by decide +kernel
theorem d_T_pump_55 : decode b_T_pump 55 = .ok (.iconst 1, 1) := by decide +kernel
theorem d_T_pump_56 : decode b_T_pump 56 = .ok (.if_icmp .ne 14, 3) := by decide +kernel
theorem d_T_pump_59 : decode b_T_pump 59 = .ok (.aload_n 0, 1) := by decide +kernel
theorem d_T_pump_60 : decode b_T_pump 60 = .ok (.aload_n 1, 1) := by decide +kernel
theorem d_T_pump_61 : decode b_T_pump 61 = .ok (.getfield 37, 3) := by decide +kernel
theorem d_T_pump_64 : decode b_T_pump 64 = .ok (.iconst 3, 1) := by decide +kernel
theorem d_T_pump_65 : decode b_T_pump 65 = .ok (.iconst (-1), 1) := by decide +kernel
theorem d_T_pump_66 : decode b_T_pump 66 = .ok (.invokevirtual 44, 3) := by decide +kernel
theorem d_T_pump_69 : decode b_T_pump 69 = .ok (.pop, 1) := by decide +kernel
theorem d_T_pump_70 : decode b_T_pump 70 = .ok (.aload_n 1, 1) := by decide +kernel
theorem d_T_pump_71 : decode b_T_pump 71 = .ok (.getfield 34, 3) := by decide +kernel
theorem d_T_pump_74 : decode b_T_pump 74 = .ok (.bipush 20, 2) := by decide +kernel
theorem d_T_pump_76 : decode b_T_pump 76 = .ok (.iadd, 1) := by decide +kernel
theorem d_T_pump_77 : decode b_T_pump 77 = .ok (.ireturn, 1) := by decide +kernel
theorem d_T_pump_78 : decode b_T_pump 78 = .ok (.aload_n 1, 1) := by decide +kernel
theorem d_T_pump_79 : decode b_T_pump 79 = .ok (.getfield 40, 3) := by decide +kernel
theorem d_T_pump_82 : decode b_T_pump 82 = .ok (.aload_n 2, 1) := by decide +kernel
theorem d_T_pump_83 : decode b_T_pump 83 = .ok (.getfield 23, 3) := by decide +kernel
theorem d_T_pump_86 : decode b_T_pump 86 = .ok (.if_icmp .le 19, 3) := by decide +kernel
theorem d_T_pump_89 : decode b_T_pump 89 = .ok (.aload_n 2, 1) := by decide +kernel
theorem d_T_pump_90 : decode b_T_pump 90 = .ok (.aload_n 1, 1) := by decide +kernel
theorem d_T_pump_91 : decode b_T_pump 91 = .ok (.getfield 40, 3) := by decide +kernel
theorem d_T_pump_94 : decode b_T_pump 94 = .ok (.invokevirtual 97, 3) := by decide +kernel
theorem d_T_pump_97 : decode b_T_pump 97 = .ok (.ifCond .ne 8, 3) := by decide +kernel
theorem d_T_pump_100 : decode b_T_pump 100 = .ok (.aload_n 1, 1) := by decide +kernel
theorem d_T_pump_101 : decode b_T_pump 101 = .ok (.getfield 34, 3) := by decide +kernel
theorem d_T_pump_104 : decode b_T_pump 104 = .ok (.ireturn, 1) := by decide +kernel
theorem d_T_pump_105 : decode b_T_pump 105 = .ok (.aload_n 1, 1) := by decide +kernel
theorem d_T_pump_106 : decode b_T_pump 106 = .ok (.getfield 34, 3) := by decide +kernel
theorem d_T_pump_109 : decode b_T_pump 109 = .ok (.iconst 1, 1) := by decide +kernel
theorem d_T_pump_110 : decode b_T_pump 110 = .ok (.if_icmp .ne 27, 3) := by decide +kernel
theorem d_T_pump_113 : decode b_T_pump 113 = .ok (.aload_n 2, 1) := by decide +kernel
theorem d_T_pump_114 : decode b_T_pump 114 = .ok (.getfield 27, 3) := by decide +kernel
theorem d_T_pump_117 : decode b_T_pump 117 = .ok (.ifCond .eq 13, 3) := by decide +kernel
theorem d_T_pump_120 : decode b_T_pump 120 = .ok (.aload_n 1, 1) := by decide +kernel
theorem d_T_pump_121 : decode b_T_pump 121 = .ok (.getfield 34, 3) := by decide +kernel
theorem d_T_pump_124 : decode b_T_pump 124 = .ok (.bipush 20, 2) := by decide +kernel
theorem d_T_pump_126 : decode b_T_pump 126 = .ok (.iadd, 1) := by decide +kernel
theorem d_T_pump_127 : decode b_T_pump 127 = .ok (.goto 9, 3) := by decide +kernel
theorem d_T_pump_130 : decode b_T_pump 130 = .ok (.aload_n 0, 1) := by decide +kernel
theorem d_T_pump_131 : decode b_T_pump 131 = .ok (.aload_n 1, 1) := by decide +kernel
theorem d_T_pump_132 : decode b_T_pump 132 = .ok (.aload_n 2, 1) := by decide +kernel
theorem d_T_pump_133 : decode b_T_pump 133 = .ok (.invokevirtual 100, 3) := by decide +kernel
theorem d_T_pump_136 : decode b_T_pump 136 = .ok (.ireturn, 1) := by decide +kernel
theorem d_T_pump_137 : decode b_T_pump 137 = .ok (.aload_n 2, 1) := by decide +kernel
theorem d_T_pump_138 : decode b_T_pump 138 = .ok (.getfield 27, 3) := by decide +kernel
theorem d_T_pump_141 : decode b_T_pump 141 = .ok (.ifCond .ne 11, 3) := by decide +kernel
theorem d_T_pump_144 : decode b_T_pump 144 = .ok (.aload_n 1, 1) := by decide +kernel
theorem d_T_pump_145 : decode b_T_pump 145 = .ok (.getfield 34, 3) := by decide +kernel
theorem d_T_pump_148 : decode b_T_pump 148 = .ok (.bipush 20, 2) := by decide +kernel
theorem d_T_pump_150 : decode b_T_pump 150 = .ok (.iadd, 1) := by decide +kernel
theorem d_T_pump_151 : decode b_T_pump 151 = .ok (.ireturn, 1) := by decide +kernel
theorem d_T_pump_152 : decode b_T_pump 152 = .ok (.aload_n 1, 1) := by decide +kernel
theorem d_T_pump_153 : decode b_T_pump 153 = .ok (.getfield 34, 3) := by decide +kernel
theorem d_T_pump_156 : decode b_T_pump 156 = .ok (.iconst 2, 1) := by decide +kernel
theorem d_T_pump_157 : decode b_T_pump 157 = .ok (.if_icmp .ne 12, 3) := by decide +kernel
theorem d_T_pump_160 : decode b_T_pump 160 = .ok (.aload_n 0, 1) := by decide +kernel
theorem d_T_pump_161 : decode b_T_pump 161 = .ok (.aload_n 1, 1) := by decide +kernel
theorem d_T_pump_162 : decode b_T_pump 162 = .ok (.aload_n 2, 1) := by decide +kernel
theorem d_T_pump_163 : decode b_T_pump 163 = .ok (.invokevirtual 104, 3) := by decide +kernel
theorem d_T_pump_166 : decode b_T_pump 166 = .ok (.goto 9, 3) := by decide +kernel
theorem d_T_pump_169 : decode b_T_pump 169 = .ok (.aload_n 0, 1) := by decide +kernel
theorem d_T_pump_170 : decode b_T_pump 170 = .ok (.aload_n 1, 1) := by decide +kernel
theorem d_T_pump_171 : decode b_T_pump 171 = .ok (.aload_n 2, 1) := by decide +kernel
theorem d_T_pump_172 : decode b_T_pump 172 = .ok (.invokevirtual 108, 3) := by decide +kernel
theorem d_T_pump_175 : decode b_T_pump 175 = .ok (.aload_n 1, 1) := by decide +kernel
theorem d_T_pump_176 : decode b_T_pump 176 = .ok (.getfield 34, 3) := by decide +kernel
theorem d_T_pump_179 : decode b_T_pump 179 = .ok (.ireturn, 1) := by decide +kernel
theorem d_T_shipped_0 : decode b_T_shipped 0 = .ok (.aload_n 1, 1) := by decide +kernel
theorem d_T_shipped_1 : decode b_T_shipped 1 = .ok (.getfield 41, 3) := by decide +kernel
theorem d_T_shipped_4 : decode b_T_shipped 4 = .ok (.istore_n 3, 1) := by decide +kernel
theorem d_T_shipped_5 : decode b_T_shipped 5 = .ok (.aload_n 2, 1) := by decide +kernel
theorem d_T_shipped_6 : decode b_T_shipped 6 = .ok (.getfield 55, 3) := by decide +kernel
theorem d_T_shipped_9 : decode b_T_shipped 9 = .ok (.iload_n 3, 1) := by decide +kernel
theorem d_T_shipped_10 : decode b_T_shipped 10 = .ok (.if_icmp .ge 19, 3) := by decide +kernel
theorem d_T_shipped_13 : decode b_T_shipped 13 = .ok (.aload_n 0, 1) := by decide +kernel
theorem d_T_shipped_14 : decode b_T_shipped 14 = .ok (.aload_n 1, 1) := by decide +kernel
theorem d_T_shipped_15 : decode b_T_shipped 15 = .ok (.getfield 37, 3) := by decide +kernel
theorem d_T_shipped_18 : decode b_T_shipped 18 = .ok (.iconst 3, 1) := by decide +kernel
theorem d_T_shipped_19 : decode b_T_shipped 19 = .ok (.aload_n 2, 1) := by decide +kernel
theorem d_T_shipped_20 : decode b_T_shipped 20 = .ok (.getfield 55, 3) := by decide +kernel
theorem d_T_shipped_23 : decode b_T_shipped 23 = .ok (.invokevirtual 44, 3) := by decide +kernel
theorem d_T_shipped_26 : decode b_T_shipped 26 = .ok (.pop, 1) := by decide +kernel
theorem d_T_shipped_27 : decode b_T_shipped 27 = .ok (.iconst 1, 1) := by decide +kernel
theorem d_T_shipped_28 : decode b_T_shipped 28 = .ok (.ireturn, 1) := by decide +kernel
theorem d_T_shipped_29 : decode b_T_shipped 29 = .ok (.iload_n 3, 1) := by decide +kernel
theorem d_T_shipped_30 : decode b_T_shipped 30 = .ok (.ifCond .le 43, 3) := by decide +kernel
theorem d_T_shipped_33 : decode b_T_shipped 33 = .ok (.aload_n 2, 1) := by decide +kernel
theorem d_T_shipped_34 : decode b_T_shipped 34 = .ok (.getfield 59, 3) := by decide +kernel
theorem d_T_shipped_37 : decode b_T_shipped 37 = .ok (.iload_n 3, 1) := by decide +kernel
theorem d_T_shipped_38 : decode b_T_shipped 38 = .ok (.iconst 1, 1) := by decide +kernel
theorem d_T_shipped_39 : decode b_T_shipped 39 = .ok (.isub, 1) := by decide +kernel
theorem d_T_shipped_40 : decode b_T_shipped 40 = .ok (.iaload, 1) := by decide +kernel
theorem d_T_shipped_41 : decode b_T_shipped 41 = .ok (.aload_n 1, 1) := by decide +kernel
theorem d_T_shipped_42 : decode b_T_shipped 42 = .ok (.getfield 52, 3) := by decide +kernel
theorem d_T_shipped_45 : decode b_T_shipped 45 = .ok (.if_icmp .eq 28, 3) := by decide +kernel
theorem d_T_shipped_48 : decode b_T_shipped 48 = .ok (.aload_n 2, 1) := by decide +kernel
theorem d_T_shipped_49 : decode b_T_shipped 49 = .ok (.iload_n 3, 1) := by decide +kernel
theorem d_T_shipped_50 : decode b_T_shipped 50 = .ok (.iconst 1, 1) := by decide +kernel
theorem d_T_shipped_51 : decode b_T_shipped 51 = .ok (.isub, 1) := by decide +kernel
theorem d_T_shipped_52 : decode b_T_shipped 52 = .ok (.invokevirtual 111, 3) := by decide +kernel
theorem d_T_shipped_55 : decode b_T_shipped 55 = .ok (.ifCond .eq 16, 3) := by decide +kernel
theorem d_T_shipped_58 : decode b_T_shipped 58 = .ok (.aload_n 0, 1) := by decide +kernel
theorem d_T_shipped_59 : decode b_T_shipped 59 = .ok (.aload_n 1, 1) := by decide +kernel
theorem d_T_shipped_60 : decode b_T_shipped 60 = .ok (.getfield 37, 3) := by decide +kernel
theorem d_T_shipped_63 : decode b_T_shipped 63 = .ok (.iconst 3, 1) := by decide +kernel
theorem d_T_shipped_64 : decode b_T_shipped 64 = .ok (.iload_n 3, 1) := by decide +kernel
theorem d_T_shipped_65 : decode b_T_shipped 65 = .ok (.iconst 1, 1) := by decide +kernel
theorem d_T_shipped_66 : decode b_T_shipped 66 = .ok (.isub, 1) := by decide +kernel
theorem d_T_shipped_67 : decode b_T_shipped 67 = .ok (.invokevirtual 44, 3) := by decide +kernel
theorem d_T_shipped_70 : decode b_T_shipped 70 = .ok (.pop, 1) := by decide +kernel
theorem d_T_shipped_71 : decode b_T_shipped 71 = .ok (.iconst 1, 1) := by decide +kernel
theorem d_T_shipped_72 : decode b_T_shipped 72 = .ok (.ireturn, 1) := by decide +kernel
theorem d_T_shipped_73 : decode b_T_shipped 73 = .ok (.aload_n 2, 1) := by decide +kernel
theorem d_T_shipped_74 : decode b_T_shipped 74 = .ok (.getfield 55, 3) := by decide +kernel
theorem d_T_shipped_77 : decode b_T_shipped 77 = .ok (.iload_n 3, 1) := by decide +kernel
theorem d_T_shipped_78 : decode b_T_shipped 78 = .ok (.if_icmp .le 46, 3) := by decide +kernel
theorem d_T_shipped_81 : decode b_T_shipped 81 = .ok (.aload_n 2, 1) := by decide +kernel
theorem d_T_shipped_82 : decode b_T_shipped 82 = .ok (.getfield 59, 3) := by decide +kernel
theorem d_T_shipped_85 : decode b_T_shipped 85 = .ok (.iload_n 3, 1) := by decide +kernel
theorem d_T_shipped_86 : decode b_T_shipped 86 = .ok (.iaload, 1) := by decide +kernel
theorem d_T_shipped_87 : decode b_T_shipped 87 = .ok (.aload_n 1, 1) := by decide +kernel
theorem d_T_shipped_88 : decode b_T_shipped 88 = .ok (.getfield 63, 3) := by decide +kernel
theorem d_T_shipped_91 : decode b_T_shipped 91 = .ok (.if_icmp .ne 29, 3) := by decide +kernel
theorem d_T_shipped_94 : decode b_T_shipped 94 = .ok (.aload_n 2, 1) := by decide +kernel
theorem d_T_shipped_95 : decode b_T_shipped 95 = .ok (.getfield 66, 3) := by decide +kernel
theorem d_T_shipped_98 : decode b_T_shipped 98 = .ok (.iload_n 3, 1) := by decide +kernel
theorem d_T_shipped_99 : decode b_T_shipped 99 = .ok (.iaload, 1) := by decide +kernel
theorem d_T_shipped_100 : decode b_T_shipped 100 = .ok (.aload_n 1, 1) := by decide +kernel
theorem d_T_shipped_101 : decode b_T_shipped 101 = .ok (.getfield 69, 3) := by decide +kernel
theorem d_T_shipped_104 : decode b_T_shipped 104 = .ok (.if_icmp .ne 16, 3) := by decide +kernel
theorem d_T_shipped_107 : decode b_T_shipped 107 = .ok (.aload_n 2, 1) := by decide +kernel
theorem d_T_shipped_108 : decode b_T_shipped 108 = .ok (.getfield 72, 3) := by decide +kernel
theorem d_T_shipped_111 : decode b_T_shipped 111 = .ok (.iload_n 3, 1) := by decide +kernel
theorem d_T_shipped_112 : decode b_T_shipped 112 = .ok (.iaload, 1) := by decide +kernel
theorem d_T_shipped_113 : decode b_T_shipped 113 = .ok (.aload_n 1, 1) := by decide +kernel
theorem d_T_shipped_114 : decode b_T_shipped 114 = .ok (.getfield 75, 3) := by decide +kernel
theorem d_T_shipped_117 : decode b_T_shipped 117 = .ok (.if_icmp .eq 7, 3) := by decide +kernel
theorem d_T_shipped_120 : decode b_T_shipped 120 = .ok (.iconst 1, 1) := by decide +kernel
theorem d_T_shipped_121 : decode b_T_shipped 121 = .ok (.goto 4, 3) := by decide +kernel
theorem d_T_shipped_124 : decode b_T_shipped 124 = .ok (.iconst 0, 1) := by decide +kernel
theorem d_T_shipped_125 : decode b_T_shipped 125 = .ok (.istore 4, 2) := by decide +kernel
theorem d_T_shipped_127 : decode b_T_shipped 127 = .ok (.iload 4, 2) := by decide +kernel
theorem d_T_shipped_129 : decode b_T_shipped 129 = .ok (.ifCond .eq 13, 3) := by decide +kernel
theorem d_T_shipped_132 : decode b_T_shipped 132 = .ok (.aload_n 2, 1) := by decide +kernel
theorem d_T_shipped_133 : decode b_T_shipped 133 = .ok (.iload_n 3, 1) := by decide +kernel
theorem d_T_shipped_134 : decode b_T_shipped 134 = .ok (.invokevirtual 111, 3) := by decide +kernel
theorem d_T_shipped_137 : decode b_T_shipped 137 = .ok (.ifCond .ne 5, 3) := by decide +kernel
theorem d_T_shipped_140 : decode b_T_shipped 140 = .ok (.iconst 1, 1) := by decide +kernel
theorem d_T_shipped_141 : decode b_T_shipped 141 = .ok (.ireturn, 1) := by decide +kernel
theorem d_T_shipped_142 : decode b_T_shipped 142 = .ok (.aload_n 2, 1) := by decide +kernel
theorem d_T_shipped_143 : decode b_T_shipped 143 = .ok (.getfield 55, 3) := by decide +kernel
theorem d_T_shipped_146 : decode b_T_shipped 146 = .ok (.iload_n 3, 1) := by decide +kernel
theorem d_T_shipped_147 : decode b_T_shipped 147 = .ok (.if_icmp .ne 24, 3) := by decide +kernel
theorem d_T_shipped_150 : decode b_T_shipped 150 = .ok (.aload_n 2, 1) := by decide +kernel
theorem d_T_shipped_151 : decode b_T_shipped 151 = .ok (.aload_n 1, 1) := by decide +kernel
theorem d_T_shipped_152 : decode b_T_shipped 152 = .ok (.getfield 63, 3) := by decide +kernel
theorem d_T_shipped_155 : decode b_T_shipped 155 = .ok (.aload_n 1, 1) := by decide +kernel
theorem d_T_shipped_156 : decode b_T_shipped 156 = .ok (.getfield 69, 3) := by decide +kernel
theorem d_T_shipped_159 : decode b_T_shipped 159 = .ok (.aload_n 1, 1) := by decide +kernel
theorem d_T_shipped_160 : decode b_T_shipped 160 = .ok (.getfield 75, 3) := by decide +kernel
theorem d_T_shipped_163 : decode b_T_shipped 163 = .ok (.invokevirtual 85, 3) := by decide +kernel
theorem d_T_shipped_166 : decode b_T_shipped 166 = .ok (.ifCond .ne 5, 3) := by decide +kernel
theorem d_T_shipped_169 : decode b_T_shipped 169 = .ok (.iconst 1, 1) := by decide +kernel
theorem d_T_shipped_170 : decode b_T_shipped 170 = .ok (.ireturn, 1) := by decide +kernel
theorem d_T_shipped_171 : decode b_T_shipped 171 = .ok (.aload_n 2, 1) := by decide +kernel
theorem d_T_shipped_172 : decode b_T_shipped 172 = .ok (.getfield 55, 3) := by decide +kernel
theorem d_T_shipped_175 : decode b_T_shipped 175 = .ok (.aload_n 1, 1) := by decide +kernel
theorem d_T_shipped_176 : decode b_T_shipped 176 = .ok (.getfield 58, 3) := by decide +kernel
theorem d_T_shipped_179 : decode b_T_shipped 179 = .ok (.if_icmp .le 16, 3) := by decide +kernel
theorem d_T_shipped_182 : decode b_T_shipped 182 = .ok (.aload_n 2, 1) := by decide +kernel
theorem d_T_shipped_183 : decode b_T_shipped 183 = .ok (.aload_n 1, 1) := by decide +kernel
theorem d_T_shipped_184 : decode b_T_shipped 184 = .ok (.getfield 58, 3) := by decide +kernel
theorem d_T_shipped_187 : decode b_T_shipped 187 = .ok (.invokevirtual 111, 3) := by decide +kernel
theorem d_T_shipped_190 : decode b_T_shipped 190 = .ok (.ifCond .ne 5, 3) := by decide +kernel
theorem d_T_shipped_193 : decode b_T_shipped 193 = .ok (.iconst 1, 1) := by decide +kernel
theorem d_T_shipped_194 : decode b_T_shipped 194 = .ok (.ireturn, 1) := by decide +kernel
theorem d_T_shipped_195 : decode b_T_shipped 195 = .ok (.aload_n 0, 1) := by decide +kernel
theorem d_T_shipped_196 : decode b_T_shipped 196 = .ok (.aload_n 1, 1) := by decide +kernel
theorem d_T_shipped_197 : decode b_T_shipped 197 = .ok (.getfield 37, 3) := by decide +kernel
theorem d_T_shipped_200 : decode b_T_shipped 200 = .ok (.iconst 2, 1) := by decide +kernel
theorem d_T_shipped_201 : decode b_T_shipped 201 = .ok (.iload_n 3, 1) := by decide +kernel
theorem d_T_shipped_202 : decode b_T_shipped 202 = .ok (.invokevirtual 44, 3) := by decide +kernel
theorem d_T_shipped_205 : decode b_T_shipped 205 = .ok (.pop, 1) := by decide +kernel
theorem d_T_shipped_206 : decode b_T_shipped 206 = .ok (.iconst 1, 1) := by decide +kernel
theorem d_T_shipped_207 : decode b_T_shipped 207 = .ok (.ireturn, 1) := by decide +kernel
theorem d_T_acked_0 : decode b_T_acked 0 = .ok (.aload_n 2, 1) := by decide +kernel
theorem d_T_acked_1 : decode b_T_acked 1 = .ok (.aload_n 2, 1) := by decide +kernel
theorem d_T_acked_2 : decode b_T_acked 2 = .ok (.getfield 114, 3) := by decide +kernel
theorem d_T_acked_5 : decode b_T_acked 5 = .ok (.aload_n 1, 1) := by decide +kernel
theorem d_T_acked_6 : decode b_T_acked 6 = .ok (.getfield 41, 3) := by decide +kernel
theorem d_T_acked_9 : decode b_T_acked 9 = .ok (.invokestatic 117, 3) := by decide +kernel
theorem d_T_acked_12 : decode b_T_acked 12 = .ok (.putfield 114, 3) := by decide +kernel
theorem d_T_acked_15 : decode b_T_acked 15 = .ok (.aload_n 1, 1) := by decide +kernel
theorem d_T_acked_16 : decode b_T_acked 16 = .ok (.getfield 41, 3) := by decide +kernel
theorem d_T_acked_19 : decode b_T_acked 19 = .ok (.iconst 1, 1) := by decide +kernel
theorem d_T_acked_20 : decode b_T_acked 20 = .ok (.iadd, 1) := by decide +kernel
theorem d_T_acked_21 : decode b_T_acked 21 = .ok (.aload_n 2, 1) := by decide +kernel
theorem d_T_acked_22 : decode b_T_acked 22 = .ok (.getfield 55, 3) := by decide +kernel
theorem d_T_acked_25 : decode b_T_acked 25 = .ok (.if_icmp .ge 17, 3) := by decide +kernel
theorem d_T_acked_28 : decode b_T_acked 28 = .ok (.aload_n 0, 1) := by decide +kernel
theorem d_T_acked_29 : decode b_T_acked 29 = .ok (.aload_n 1, 1) := by decide +kernel
theorem d_T_acked_30 : decode b_T_acked 30 = .ok (.getfield 37, 3) := by decide +kernel
theorem d_T_acked_33 : decode b_T_acked 33 = .ok (.aload_n 1, 1) := by decide +kernel
theorem d_T_acked_34 : decode b_T_acked 34 = .ok (.getfield 41, 3) := by decide +kernel
theorem d_T_acked_37 : decode b_T_acked 37 = .ok (.iconst 1, 1) := by decide +kernel
theorem d_T_acked_38 : decode b_T_acked 38 = .ok (.iadd, 1) := by decide +kernel
theorem d_T_acked_39 : decode b_T_acked 39 = .ok (.invokevirtual 89, 3) := by decide +kernel
theorem d_T_acked_42 : decode b_T_acked 42 = .ok (.return_, 1) := by decide +kernel
theorem d_T_wanted_0 : decode b_T_wanted 0 = .ok (.aload_n 1, 1) := by decide +kernel
theorem d_T_wanted_1 : decode b_T_wanted 1 = .ok (.getfield 41, 3) := by decide +kernel
theorem d_T_wanted_4 : decode b_T_wanted 4 = .ok (.ifCond .lt 10, 3) := by decide +kernel
theorem d_T_wanted_7 : decode b_T_wanted 7 = .ok (.aload_n 2, 1) := by decide +kernel
theorem d_T_wanted_8 : decode b_T_wanted 8 = .ok (.getfield 55, 3) := by decide +kernel
theorem d_T_wanted_11 : decode b_T_wanted 11 = .ok (.ifCond .ne 4, 3) := by decide +kernel
theorem d_T_wanted_14 : decode b_T_wanted 14 = .ok (.return_, 1) := by decide +kernel
theorem d_T_wanted_15 : decode b_T_wanted 15 = .ok (.aload_n 0, 1) := by decide +kernel
theorem d_T_wanted_16 : decode b_T_wanted 16 = .ok (.aload_n 1, 1) := by decide +kernel
theorem d_T_wanted_17 : decode b_T_wanted 17 = .ok (.getfield 37, 3) := by decide +kernel
theorem d_T_wanted_20 : decode b_T_wanted 20 = .ok (.aload_n 1, 1) := by decide +kernel
theorem d_T_wanted_21 : decode b_T_wanted 21 = .ok (.getfield 41, 3) := by decide +kernel
theorem d_T_wanted_24 : decode b_T_wanted 24 = .ok (.aload_n 2, 1) := by decide +kernel
theorem d_T_wanted_25 : decode b_T_wanted 25 = .ok (.getfield 55, 3) := by decide +kernel
theorem d_T_wanted_28 : decode b_T_wanted 28 = .ok (.iconst 1, 1) := by decide +kernel
theorem d_T_wanted_29 : decode b_T_wanted 29 = .ok (.isub, 1) := by decide +kernel
theorem d_T_wanted_30 : decode b_T_wanted 30 = .ok (.invokestatic 123, 3) := by decide +kernel
theorem d_T_wanted_33 : decode b_T_wanted 33 = .ok (.invokevirtual 89, 3) := by decide +kernel
theorem d_T_wanted_36 : decode b_T_wanted 36 = .ok (.return_, 1) := by decide +kernel
theorem d_T_fuse_0 : decode b_T_fuse 0 = .ok (.iload_n 1, 1) := by decide +kernel
theorem d_T_fuse_1 : decode b_T_fuse 1 = .ok (.invokestatic 78, 3) := by decide +kernel
theorem d_T_fuse_4 : decode b_T_fuse 4 = .ok (.ifCond .ne 5, 3) := by decide +kernel
theorem d_T_fuse_7 : decode b_T_fuse 7 = .ok (.iconst (-1), 1) := by decide +kernel
theorem d_T_fuse_8 : decode b_T_fuse 8 = .ok (.ireturn, 1) := by decide +kernel
theorem d_T_fuse_9 : decode b_T_fuse 9 = .ok (.aload_n 0, 1) := by decide +kernel
theorem d_T_fuse_10 : decode b_T_fuse 10 = .ok (.getfield 10, 3) := by decide +kernel
theorem d_T_fuse_13 : decode b_T_fuse 13 = .ok (.iload_n 1, 1) := by decide +kernel
theorem d_T_fuse_14 : decode b_T_fuse 14 = .ok (.aaload, 1) := by decide +kernel
theorem d_T_fuse_15 : decode b_T_fuse 15 = .ok (.iload_n 2, 1) := by decide +kernel
theorem d_T_fuse_16 : decode b_T_fuse 16 = .ok (.iconst (-1), 1) := by decide +kernel
theorem d_T_fuse_17 : decode b_T_fuse 17 = .ok (.invokestatic 117, 3) := by decide +kernel
theorem d_T_fuse_20 : decode b_T_fuse 20 = .ok (.putfield 126, 3) := by decide +kernel
theorem d_T_fuse_23 : decode b_T_fuse 23 = .ok (.iconst 1, 1) := by decide +kernel
theorem d_T_fuse_24 : decode b_T_fuse 24 = .ok (.ireturn, 1) := by decide +kernel
theorem d_T_crash_0 : decode b_T_crash 0 = .ok (.iload_n 1, 1) := by decide +kernel
theorem d_T_crash_1 : decode b_T_crash 1 = .ok (.invokestatic 78, 3) := by decide +kernel
theorem d_T_crash_4 : decode b_T_crash 4 = .ok (.ifCond .ne 5, 3) := by decide +kernel
theorem d_T_crash_7 : decode b_T_crash 7 = .ok (.iconst (-1), 1) := by decide +kernel
theorem d_T_crash_8 : decode b_T_crash 8 = .ok (.ireturn, 1) := by decide +kernel
theorem d_T_crash_9 : decode b_T_crash 9 = .ok (.aload_n 0, 1) := by decide +kernel
theorem d_T_crash_10 : decode b_T_crash 10 = .ok (.getfield 10, 3) := by decide +kernel
theorem d_T_crash_13 : decode b_T_crash 13 = .ok (.iload_n 1, 1) := by decide +kernel
theorem d_T_crash_14 : decode b_T_crash 14 = .ok (.aaload, 1) := by decide +kernel
theorem d_T_crash_15 : decode b_T_crash 15 = .ok (.getfield 82, 3) := by decide +kernel
theorem d_T_crash_18 : decode b_T_crash 18 = .ok (.istore_n 2, 1) := by decide +kernel
theorem d_T_crash_19 : decode b_T_crash 19 = .ok (.aload_n 0, 1) := by decide +kernel
theorem d_T_crash_20 : decode b_T_crash 20 = .ok (.getfield 10, 3) := by decide +kernel
theorem d_T_crash_23 : decode b_T_crash 23 = .ok (.iload_n 1, 1) := by decide +kernel
theorem d_T_crash_24 : decode b_T_crash 24 = .ok (.aaload, 1) := by decide +kernel
theorem d_T_crash_25 : decode b_T_crash 25 = .ok (.invokevirtual 129, 3) := by decide +kernel
theorem d_T_crash_28 : decode b_T_crash 28 = .ok (.iload_n 2, 1) := by decide +kernel
theorem d_T_crash_29 : decode b_T_crash 29 = .ok (.ifCond .eq 7, 3) := by decide +kernel
theorem d_T_crash_32 : decode b_T_crash 32 = .ok (.iconst 1, 1) := by decide +kernel
theorem d_T_crash_33 : decode b_T_crash 33 = .ok (.goto 4, 3) := by decide +kernel
theorem d_T_crash_36 : decode b_T_crash 36 = .ok (.iconst 0, 1) := by decide +kernel
theorem d_T_crash_37 : decode b_T_crash 37 = .ok (.ireturn, 1) := by decide +kernel
theorem d_T_recover_0 : decode b_T_recover 0 = .ok (.iload_n 1, 1) := by decide +kernel
theorem d_T_recover_1 : decode b_T_recover 1 = .ok (.invokestatic 78, 3) := by decide +kernel
theorem d_T_recover_4 : decode b_T_recover 4 = .ok (.ifCond .ne 5, 3) := by decide +kernel
theorem d_T_recover_7 : decode b_T_recover 7 = .ok (.iconst (-1), 1) := by decide +kernel
theorem d_T_recover_8 : decode b_T_recover 8 = .ok (.ireturn, 1) := by decide +kernel
theorem d_T_recover_9 : decode b_T_recover 9 = .ok (.aload_n 0, 1) := by decide +kernel
theorem d_T_recover_10 : decode b_T_recover 10 = .ok (.getfield 10, 3) := by decide +kernel
theorem d_T_recover_13 : decode b_T_recover 13 = .ok (.iload_n 1, 1) := by decide +kernel
theorem d_T_recover_14 : decode b_T_recover 14 = .ok (.aaload, 1) := by decide +kernel
theorem d_T_recover_15 : decode b_T_recover 15 = .ok (.astore_n 2, 1) := by decide +kernel
theorem d_T_recover_16 : decode b_T_recover 16 = .ok (.aload_n 2, 1) := by decide +kernel
theorem d_T_recover_17 : decode b_T_recover 17 = .ok (.getfield 82, 3) := by decide +kernel
theorem d_T_recover_20 : decode b_T_recover 20 = .ok (.ifCond .eq 6, 3) := by decide +kernel
theorem d_T_recover_23 : decode b_T_recover 23 = .ok (.bipush (-2), 2) := by decide +kernel
theorem d_T_recover_25 : decode b_T_recover 25 = .ok (.ireturn, 1) := by decide +kernel
theorem d_T_recover_26 : decode b_T_recover 26 = .ok (.aload_n 2, 1) := by decide +kernel
theorem d_T_recover_27 : decode b_T_recover 27 = .ok (.iconst 1, 1) := by decide +kernel
theorem d_T_recover_28 : decode b_T_recover 28 = .ok (.putfield 82, 3) := by decide +kernel
theorem d_T_recover_31 : decode b_T_recover 31 = .ok (.aload_n 2, 1) := by decide +kernel
theorem d_T_recover_32 : decode b_T_recover 32 = .ok (.iconst (-1), 1) := by decide +kernel
theorem d_T_recover_33 : decode b_T_recover 33 = .ok (.putfield 126, 3) := by decide +kernel
theorem d_T_recover_36 : decode b_T_recover 36 = .ok (.aload_n 2, 1) := by decide +kernel
theorem d_T_recover_37 : decode b_T_recover 37 = .ok (.iconst (-1), 1) := by decide +kernel
theorem d_T_recover_38 : decode b_T_recover 38 = .ok (.putfield 114, 3) := by decide +kernel
theorem d_T_recover_41 : decode b_T_recover 41 = .ok (.aload_n 2, 1) := by decide +kernel
theorem d_T_recover_42 : decode b_T_recover 42 = .ok (.getfield 55, 3) := by decide +kernel
theorem d_T_recover_45 : decode b_T_recover 45 = .ok (.ireturn, 1) := by decide +kernel
theorem d_T_promote_0 : decode b_T_promote 0 = .ok (.iload_n 1, 1) := by decide +kernel
theorem d_T_promote_1 : decode b_T_promote 1 = .ok (.invokestatic 78, 3) := by decide +kernel
theorem d_T_promote_4 : decode b_T_promote 4 = .ok (.ifCond .ne 5, 3) := by decide +kernel
theorem d_T_promote_7 : decode b_T_promote 7 = .ok (.iconst (-1), 1) := by decide +kernel
theorem d_T_promote_8 : decode b_T_promote 8 = .ok (.ireturn, 1) := by decide +kernel
theorem d_T_promote_9 : decode b_T_promote 9 = .ok (.aload_n 0, 1) := by decide +kernel
theorem d_T_promote_10 : decode b_T_promote 10 = .ok (.getfield 10, 3) := by decide +kernel
theorem d_T_promote_13 : decode b_T_promote 13 = .ok (.iload_n 1, 1) := by decide +kernel
theorem d_T_promote_14 : decode b_T_promote 14 = .ok (.aaload, 1) := by decide +kernel
theorem d_T_promote_15 : decode b_T_promote 15 = .ok (.astore_n 2, 1) := by decide +kernel
theorem d_T_promote_16 : decode b_T_promote 16 = .ok (.aload_n 2, 1) := by decide +kernel
theorem d_T_promote_17 : decode b_T_promote 17 = .ok (.getfield 82, 3) := by decide +kernel
theorem d_T_promote_20 : decode b_T_promote 20 = .ok (.ifCond .ne 6, 3) := by decide +kernel
theorem d_T_promote_23 : decode b_T_promote 23 = .ok (.bipush (-4), 2) := by decide +kernel
theorem d_T_promote_25 : decode b_T_promote 25 = .ok (.ireturn, 1) := by decide +kernel
theorem d_T_promote_26 : decode b_T_promote 26 = .ok (.aload_n 2, 1) := by decide +kernel
theorem d_T_promote_27 : decode b_T_promote 27 = .ok (.getfield 23, 3) := by decide +kernel
theorem d_T_promote_30 : decode b_T_promote 30 = .ok (.iconst 1, 1) := by decide +kernel
theorem d_T_promote_31 : decode b_T_promote 31 = .ok (.iadd, 1) := by decide +kernel
theorem d_T_promote_32 : decode b_T_promote 32 = .ok (.istore_n 3, 1) := by decide +kernel
theorem d_T_promote_33 : decode b_T_promote 33 = .ok (.iload_n 3, 1) := by decide +kernel
theorem d_T_promote_34 : decode b_T_promote 34 = .ok (.iconst 2, 1) := by decide +kernel
theorem d_T_promote_35 : decode b_T_promote 35 = .ok (.irem, 1) := by decide +kernel
theorem d_T_promote_36 : decode b_T_promote 36 = .ok (.iload_n 1, 1) := by decide +kernel
theorem d_T_promote_37 : decode b_T_promote 37 = .ok (.if_icmp .eq 6, 3) := by decide +kernel
theorem d_T_promote_40 : decode b_T_promote 40 = .ok (.iinc 3 1, 3) := by decide +kernel
theorem d_T_promote_43 : decode b_T_promote 43 = .ok (.aload_n 2, 1) := by decide +kernel
theorem d_T_promote_44 : decode b_T_promote 44 = .ok (.iload_n 3, 1) := by decide +kernel
theorem d_T_promote_45 : decode b_T_promote 45 = .ok (.invokevirtual 97, 3) := by decide +kernel
theorem d_T_promote_48 : decode b_T_promote 48 = .ok (.ifCond .ne 6, 3) := by decide +kernel
theorem d_T_promote_51 : decode b_T_promote 51 = .ok (.bipush (-4), 2) := by decide +kernel
theorem d_T_promote_53 : decode b_T_promote 53 = .ok (.ireturn, 1) := by decide +kernel
theorem d_T_promote_54 : decode b_T_promote 54 = .ok (.aload_n 2, 1) := by decide +kernel
theorem d_T_promote_55 : decode b_T_promote 55 = .ok (.iconst 1, 1) := by decide +kernel
theorem d_T_promote_56 : decode b_T_promote 56 = .ok (.putfield 27, 3) := by decide +kernel
theorem d_T_promote_59 : decode b_T_promote 59 = .ok (.aload_n 2, 1) := by decide +kernel
theorem d_T_promote_60 : decode b_T_promote 60 = .ok (.iconst (-1), 1) := by decide +kernel
theorem d_T_promote_61 : decode b_T_promote 61 = .ok (.putfield 114, 3) := by decide +kernel
theorem d_T_promote_64 : decode b_T_promote 64 = .ok (.iload_n 3, 1) := by decide +kernel
theorem d_T_promote_65 : decode b_T_promote 65 = .ok (.ireturn, 1) := by decide +kernel
theorem d_T_rejoin_0 : decode b_T_rejoin 0 = .ok (.iload_n 1, 1) := by decide +kernel
theorem d_T_rejoin_1 : decode b_T_rejoin 1 = .ok (.invokestatic 78, 3) := by decide +kernel
theorem d_T_rejoin_4 : decode b_T_rejoin 4 = .ok (.ifCond .ne 5, 3) := by decide +kernel
theorem d_T_rejoin_7 : decode b_T_rejoin 7 = .ok (.iconst (-1), 1) := by decide +kernel
theorem d_T_rejoin_8 : decode b_T_rejoin 8 = .ok (.ireturn, 1) := by decide +kernel
theorem d_T_rejoin_9 : decode b_T_rejoin 9 = .ok (.aload_n 0, 1) := by decide +kernel
theorem d_T_rejoin_10 : decode b_T_rejoin 10 = .ok (.getfield 10, 3) := by decide +kernel
theorem d_T_rejoin_13 : decode b_T_rejoin 13 = .ok (.iload_n 1, 1) := by decide +kernel
theorem d_T_rejoin_14 : decode b_T_rejoin 14 = .ok (.aaload, 1) := by decide +kernel
theorem d_T_rejoin_15 : decode b_T_rejoin 15 = .ok (.astore_n 2, 1) := by decide +kernel
theorem d_T_rejoin_16 : decode b_T_rejoin 16 = .ok (.aload_n 2, 1) := by decide +kernel
theorem d_T_rejoin_17 : decode b_T_rejoin 17 = .ok (.getfield 82, 3) := by decide +kernel
theorem d_T_rejoin_20 : decode b_T_rejoin 20 = .ok (.ifCond .ne 6, 3) := by decide +kernel
theorem d_T_rejoin_23 : decode b_T_rejoin 23 = .ok (.bipush (-4), 2) := by decide +kernel
theorem d_T_rejoin_25 : decode b_T_rejoin 25 = .ok (.ireturn, 1) := by decide +kernel
theorem d_T_rejoin_26 : decode b_T_rejoin 26 = .ok (.aload_n 2, 1) := by decide +kernel
theorem d_T_rejoin_27 : decode b_T_rejoin 27 = .ok (.getfield 27, 3) := by decide +kernel
theorem d_T_rejoin_30 : decode b_T_rejoin 30 = .ok (.ifCond .eq 6, 3) := by decide +kernel
theorem d_T_rejoin_33 : decode b_T_rejoin 33 = .ok (.bipush (-2), 2) := by decide +kernel
theorem d_T_rejoin_35 : decode b_T_rejoin 35 = .ok (.ireturn, 1) := by decide +kernel
theorem d_T_rejoin_36 : decode b_T_rejoin 36 = .ok (.aload_n 0, 1) := by decide +kernel
theorem d_T_rejoin_37 : decode b_T_rejoin 37 = .ok (.iload_n 1, 1) := by decide +kernel
theorem d_T_rejoin_38 : decode b_T_rejoin 38 = .ok (.iconst 3, 1) := by decide +kernel
theorem d_T_rejoin_39 : decode b_T_rejoin 39 = .ok (.aload_n 2, 1) := by decide +kernel
theorem d_T_rejoin_40 : decode b_T_rejoin 40 = .ok (.getfield 55, 3) := by decide +kernel
theorem d_T_rejoin_43 : decode b_T_rejoin 43 = .ok (.invokevirtual 44, 3) := by decide +kernel
theorem d_T_rejoin_46 : decode b_T_rejoin 46 = .ok (.ifnonnull 8, 3) := by decide +kernel
theorem d_T_rejoin_49 : decode b_T_rejoin 49 = .ok (.bipush (-3), 2) := by decide +kernel
theorem d_T_rejoin_51 : decode b_T_rejoin 51 = .ok (.goto 4, 3) := by decide +kernel
theorem d_T_rejoin_54 : decode b_T_rejoin 54 = .ok (.iconst 1, 1) := by decide +kernel
theorem d_T_rejoin_55 : decode b_T_rejoin 55 = .ok (.ireturn, 1) := by decide +kernel
theorem d_T_told_0 : decode b_T_told 0 = .ok (.iload_n 1, 1) := by decide +kernel
theorem d_T_told_1 : decode b_T_told 1 = .ok (.invokestatic 78, 3) := by decide +kernel
theorem d_T_told_4 : decode b_T_told 4 = .ok (.ifCond .ne 5, 3) := by decide +kernel
theorem d_T_told_7 : decode b_T_told 7 = .ok (.iconst (-1), 1) := by decide +kernel
theorem d_T_told_8 : decode b_T_told 8 = .ok (.ireturn, 1) := by decide +kernel
theorem d_T_told_9 : decode b_T_told 9 = .ok (.aload_n 0, 1) := by decide +kernel
theorem d_T_told_10 : decode b_T_told 10 = .ok (.getfield 10, 3) := by decide +kernel
theorem d_T_told_13 : decode b_T_told 13 = .ok (.iload_n 1, 1) := by decide +kernel
theorem d_T_told_14 : decode b_T_told 14 = .ok (.aaload, 1) := by decide +kernel
theorem d_T_told_15 : decode b_T_told 15 = .ok (.astore_n 3, 1) := by decide +kernel
theorem d_T_told_16 : decode b_T_told 16 = .ok (.iload_n 2, 1) := by decide +kernel
theorem d_T_told_17 : decode b_T_told 17 = .ok (.tableswitch 105 0 6 #[43, 48, 53, 66, 79, 95, 100], 43) := by decide +kernel
theorem d_T_told_60 : decode b_T_told 60 = .ok (.aload_n 3, 1) := by decide +kernel
theorem d_T_told_61 : decode b_T_told 61 = .ok (.getfield 23, 3) := by decide +kernel
theorem d_T_told_64 : decode b_T_told 64 = .ok (.ireturn, 1) := by decide +kernel
theorem d_T_told_65 : decode b_T_told 65 = .ok (.aload_n 3, 1) := by decide +kernel
theorem d_T_told_66 : decode b_T_told 66 = .ok (.getfield 55, 3) := by decide +kernel
theorem d_T_told_69 : decode b_T_told 69 = .ok (.ireturn, 1) := by decide +kernel
theorem d_T_told_70 : decode b_T_told 70 = .ok (.aload_n 3, 1) := by decide +kernel
theorem d_T_told_71 : decode b_T_told 71 = .ok (.getfield 82, 3) := by decide +kernel
theorem d_T_told_74 : decode b_T_told 74 = .ok (.ifCond .eq 7, 3) := by decide +kernel
theorem d_T_told_77 : decode b_T_told 77 = .ok (.iconst 1, 1) := by decide +kernel
theorem d_T_told_78 : decode b_T_told 78 = .ok (.goto 4, 3) := by decide +kernel
theorem d_T_told_81 : decode b_T_told 81 = .ok (.iconst 0, 1) := by decide +kernel
theorem d_T_told_82 : decode b_T_told 82 = .ok (.ireturn, 1) := by decide +kernel
theorem d_T_told_83 : decode b_T_told 83 = .ok (.aload_n 3, 1) := by decide +kernel
theorem d_T_told_84 : decode b_T_told 84 = .ok (.getfield 27, 3) := by decide +kernel
theorem d_T_told_87 : decode b_T_told 87 = .ok (.ifCond .eq 7, 3) := by decide +kernel
theorem d_T_told_90 : decode b_T_told 90 = .ok (.iconst 1, 1) := by decide +kernel
theorem d_T_told_91 : decode b_T_told 91 = .ok (.goto 4, 3) := by decide +kernel
theorem d_T_told_94 : decode b_T_told 94 = .ok (.iconst 0, 1) := by decide +kernel
theorem d_T_told_95 : decode b_T_told 95 = .ok (.ireturn, 1) := by decide +kernel
theorem d_T_told_96 : decode b_T_told 96 = .ok (.aload_n 3, 1) := by decide +kernel
theorem d_T_told_97 : decode b_T_told 97 = .ok (.getfield 27, 3) := by decide +kernel
theorem d_T_told_100 : decode b_T_told 100 = .ok (.ifCond .eq 10, 3) := by decide +kernel
theorem d_T_told_103 : decode b_T_told 103 = .ok (.aload_n 3, 1) := by decide +kernel
theorem d_T_told_104 : decode b_T_told 104 = .ok (.getfield 114, 3) := by decide +kernel
theorem d_T_told_107 : decode b_T_told 107 = .ok (.goto 4, 3) := by decide +kernel
theorem d_T_told_110 : decode b_T_told 110 = .ok (.iconst (-1), 1) := by decide +kernel
theorem d_T_told_111 : decode b_T_told 111 = .ok (.ireturn, 1) := by decide +kernel
theorem d_T_told_112 : decode b_T_told 112 = .ok (.aload_n 3, 1) := by decide +kernel
theorem d_T_told_113 : decode b_T_told 113 = .ok (.getfield 126, 3) := by decide +kernel
theorem d_T_told_116 : decode b_T_told 116 = .ok (.ireturn, 1) := by decide +kernel
theorem d_T_told_117 : decode b_T_told 117 = .ok (.aload_n 3, 1) := by decide +kernel
theorem d_T_told_118 : decode b_T_told 118 = .ok (.getfield 132, 3) := by decide +kernel
theorem d_T_told_121 : decode b_T_told 121 = .ok (.ireturn, 1) := by decide +kernel
theorem d_T_told_122 : decode b_T_told 122 = .ok (.iconst (-1), 1) := by decide +kernel
theorem d_T_told_123 : decode b_T_told 123 = .ok (.ireturn, 1) := by decide +kernel
theorem d_T_entry_0 : decode b_T_entry 0 = .ok (.iload_n 1, 1) := by decide +kernel
theorem d_T_entry_1 : decode b_T_entry 1 = .ok (.invokestatic 78, 3) := by decide +kernel
theorem d_T_entry_4 : decode b_T_entry 4 = .ok (.ifCond .eq 20, 3) := by decide +kernel
theorem d_T_entry_7 : decode b_T_entry 7 = .ok (.iload_n 2, 1) := by decide +kernel
theorem d_T_entry_8 : decode b_T_entry 8 = .ok (.ifCond .lt 16, 3) := by decide +kernel
theorem d_T_entry_11 : decode b_T_entry 11 = .ok (.iload_n 2, 1) := by decide +kernel
theorem d_T_entry_12 : decode b_T_entry 12 = .ok (.aload_n 0, 1) := by decide +kernel
theorem d_T_entry_13 : decode b_T_entry 13 = .ok (.getfield 10, 3) := by decide +kernel
theorem d_T_entry_16 : decode b_T_entry 16 = .ok (.iload_n 1, 1) := by decide +kernel
theorem d_T_entry_17 : decode b_T_entry 17 = .ok (.aaload, 1) := by decide +kernel
theorem d_T_entry_18 : decode b_T_entry 18 = .ok (.getfield 55, 3) := by decide +kernel
theorem d_T_entry_21 : decode b_T_entry 21 = .ok (.if_icmp .lt 5, 3) := by decide +kernel
theorem d_T_entry_24 : decode b_T_entry 24 = .ok (.iconst 0, 1) := by decide +kernel
theorem d_T_entry_25 : decode b_T_entry 25 = .ok (.ireturn, 1) := by decide +kernel
theorem d_T_entry_26 : decode b_T_entry 26 = .ok (.aload_n 0, 1) := by decide +kernel
theorem d_T_entry_27 : decode b_T_entry 27 = .ok (.getfield 10, 3) := by decide +kernel
theorem d_T_entry_30 : decode b_T_entry 30 = .ok (.iload_n 1, 1) := by decide +kernel
theorem d_T_entry_31 : decode b_T_entry 31 = .ok (.aaload, 1) := by decide +kernel
theorem d_T_entry_32 : decode b_T_entry 32 = .ok (.astore 4, 2) := by decide +kernel
theorem d_T_entry_34 : decode b_T_entry 34 = .ok (.iload_n 3, 1) := by decide +kernel
theorem d_T_entry_35 : decode b_T_entry 35 = .ok (.ifCond .ne 13, 3) := by decide +kernel
theorem d_T_entry_38 : decode b_T_entry 38 = .ok (.aload 4, 2) := by decide +kernel
theorem d_T_entry_40 : decode b_T_entry 40 = .ok (.getfield 59, 3) := by decide +kernel
theorem d_T_entry_43 : decode b_T_entry 43 = .ok (.iload_n 2, 1) := by decide +kernel
theorem d_T_entry_44 : decode b_T_entry 44 = .ok (.iaload, 1) := by decide +kernel
theorem d_T_entry_45 : decode b_T_entry 45 = .ok (.goto 34, 3) := by decide +kernel
theorem d_T_entry_48 : decode b_T_entry 48 = .ok (.iload_n 3, 1) := by decide +kernel
theorem d_T_entry_49 : decode b_T_entry 49 = .ok (.iconst 1, 1) := by decide +kernel
theorem d_T_entry_50 : decode b_T_entry 50 = .ok (.if_icmp .ne 13, 3) := by decide +kernel
theorem d_T_entry_53 : decode b_T_entry 53 = .ok (.aload 4, 2) := by decide +kernel
theorem d_T_entry_55 : decode b_T_entry 55 = .ok (.getfield 66, 3) := by decide +kernel
theorem d_T_entry_58 : decode b_T_entry 58 = .ok (.iload_n 2, 1) := by decide +kernel
theorem d_T_entry_59 : decode b_T_entry 59 = .ok (.iaload, 1) := by decide +kernel
theorem d_T_entry_60 : decode b_T_entry 60 = .ok (.goto 19, 3) := by decide +kernel
theorem d_T_entry_63 : decode b_T_entry 63 = .ok (.iload_n 3, 1) := by decide +kernel
theorem d_T_entry_64 : decode b_T_entry 64 = .ok (.iconst 2, 1) := by decide +kernel
theorem d_T_entry_65 : decode b_T_entry 65 = .ok (.if_icmp .ne 13, 3) := by decide +kernel
theorem d_T_entry_68 : decode b_T_entry 68 = .ok (.aload 4, 2) := by decide +kernel
theorem d_T_entry_70 : decode b_T_entry 70 = .ok (.getfield 72, 3) := by decide +kernel
theorem d_T_entry_73 : decode b_T_entry 73 = .ok (.iload_n 2, 1) := by decide +kernel
theorem d_T_entry_74 : decode b_T_entry 74 = .ok (.iaload, 1) := by decide +kernel
theorem d_T_entry_75 : decode b_T_entry 75 = .ok (.goto 4, 3) := by decide +kernel
theorem d_T_entry_78 : decode b_T_entry 78 = .ok (.iconst 0, 1) := by decide +kernel
theorem d_T_entry_79 : decode b_T_entry 79 = .ok (.ireturn, 1) := by decide +kernel
theorem d_T_message_0 : decode b_T_message 0 = .ok (.iload_n 1, 1) := by decide +kernel
theorem d_T_message_1 : decode b_T_message 1 = .ok (.ifCond .lt 20, 3) := by decide +kernel
theorem d_T_message_4 : decode b_T_message 4 = .ok (.iload_n 1, 1) := by decide +kernel
theorem d_T_message_5 : decode b_T_message 5 = .ok (.aload_n 0, 1) := by decide +kernel
theorem d_T_message_6 : decode b_T_message 6 = .ok (.getfield 31, 3) := by decide +kernel
theorem d_T_message_9 : decode b_T_message 9 = .ok (.if_icmp .ge 12, 3) := by decide +kernel
theorem d_T_message_12 : decode b_T_message 12 = .ok (.iload_n 2, 1) := by decide +kernel
theorem d_T_message_13 : decode b_T_message 13 = .ok (.ifCond .lt 8, 3) := by decide +kernel
theorem d_T_message_16 : decode b_T_message 16 = .ok (.iload_n 2, 1) := by decide +kernel
theorem d_T_message_17 : decode b_T_message 17 = .ok (.iconst 3, 1) := by decide +kernel
theorem d_T_message_18 : decode b_T_message 18 = .ok (.if_icmp .le 5, 3) := by decide +kernel
theorem d_T_message_21 : decode b_T_message 21 = .ok (.iconst (-1), 1) := by decide +kernel
theorem d_T_message_22 : decode b_T_message 22 = .ok (.ireturn, 1) := by decide +kernel
theorem d_T_message_23 : decode b_T_message 23 = .ok (.aload_n 0, 1) := by decide +kernel
theorem d_T_message_24 : decode b_T_message 24 = .ok (.getfield 18, 3) := by decide +kernel
theorem d_T_message_27 : decode b_T_message 27 = .ok (.iload_n 1, 1) := by decide +kernel
theorem d_T_message_28 : decode b_T_message 28 = .ok (.aaload, 1) := by decide +kernel
theorem d_T_message_29 : decode b_T_message 29 = .ok (.astore_n 3, 1) := by decide +kernel
theorem d_T_message_30 : decode b_T_message 30 = .ok (.iload_n 2, 1) := by decide +kernel
theorem d_T_message_31 : decode b_T_message 31 = .ok (.ifCond .ne 10, 3) := by decide +kernel
theorem d_T_message_34 : decode b_T_message 34 = .ok (.aload_n 3, 1) := by decide +kernel
theorem d_T_message_35 : decode b_T_message 35 = .ok (.getfield 34, 3) := by decide +kernel
theorem d_T_message_38 : decode b_T_message 38 = .ok (.goto 31, 3) := by decide +kernel
theorem d_T_message_41 : decode b_T_message 41 = .ok (.iload_n 2, 1) := by decide +kernel
theorem d_T_message_42 : decode b_T_message 42 = .ok (.iconst 1, 1) := by decide +kernel
theorem d_T_message_43 : decode b_T_message 43 = .ok (.if_icmp .ne 10, 3) := by decide +kernel
theorem d_T_message_46 : decode b_T_message 46 = .ok (.aload_n 3, 1) := by decide +kernel
theorem d_T_message_47 : decode b_T_message 47 = .ok (.getfield 37, 3) := by decide +kernel
theorem d_T_message_50 : decode b_T_message 50 = .ok (.goto 19, 3) := by decide +kernel
theorem d_T_message_53 : decode b_T_message 53 = .ok (.iload_n 2, 1) := by decide +kernel
theorem d_T_message_54 : decode b_T_message 54 = .ok (.iconst 2, 1) := by decide +kernel
theorem d_T_message_55 : decode b_T_message 55 = .ok (.if_icmp .ne 10, 3) := by decide +kernel
theorem d_T_message_58 : decode b_T_message 58 = .ok (.aload_n 3, 1) := by decide +kernel
theorem d_T_message_59 : decode b_T_message 59 = .ok (.getfield 40, 3) := by decide +kernel
theorem d_T_message_62 : decode b_T_message 62 = .ok (.goto 7, 3) := by decide +kernel
theorem d_T_message_65 : decode b_T_message 65 = .ok (.aload_n 3, 1) := by decide +kernel
theorem d_T_message_66 : decode b_T_message 66 = .ok (.getfield 41, 3) := by decide +kernel
theorem d_T_message_69 : decode b_T_message 69 = .ok (.ireturn, 1) := by decide +kernel
theorem d_T_same_0 : decode b_T_same 0 = .ok (.aload_n 0, 1) := by decide +kernel
theorem d_T_same_1 : decode b_T_same 1 = .ok (.getfield 10, 3) := by decide +kernel
theorem d_T_same_4 : decode b_T_same 4 = .ok (.iconst 0, 1) := by decide +kernel
theorem d_T_same_5 : decode b_T_same 5 = .ok (.aaload, 1) := by decide +kernel
theorem d_T_same_6 : decode b_T_same 6 = .ok (.astore_n 1, 1) := by decide +kernel
theorem d_T_same_7 : decode b_T_same 7 = .ok (.aload_n 0, 1) := by decide +kernel
theorem d_T_same_8 : decode b_T_same 8 = .ok (.getfield 10, 3) := by decide +kernel
theorem d_T_same_11 : decode b_T_same 11 = .ok (.iconst 1, 1) := by decide +kernel
theorem d_T_same_12 : decode b_T_same 12 = .ok (.aaload, 1) := by decide +kernel
theorem d_T_same_13 : decode b_T_same 13 = .ok (.astore_n 2, 1) := by decide +kernel
theorem d_T_same_14 : decode b_T_same 14 = .ok (.iconst 0, 1) := by decide +kernel
theorem d_T_same_15 : decode b_T_same 15 = .ok (.istore_n 3, 1) := by decide +kernel
theorem d_T_same_16 : decode b_T_same 16 = .ok (.iload_n 3, 1) := by decide +kernel
theorem d_T_same_17 : decode b_T_same 17 = .ok (.aload_n 1, 1) := by decide +kernel
theorem d_T_same_18 : decode b_T_same 18 = .ok (.getfield 55, 3) := by decide +kernel
theorem d_T_same_21 : decode b_T_same 21 = .ok (.if_icmp .ge 62, 3) := by decide +kernel
theorem d_T_same_24 : decode b_T_same 24 = .ok (.iload_n 3, 1) := by decide +kernel
theorem d_T_same_25 : decode b_T_same 25 = .ok (.aload_n 2, 1) := by decide +kernel
theorem d_T_same_26 : decode b_T_same 26 = .ok (.getfield 55, 3) := by decide +kernel
theorem d_T_same_29 : decode b_T_same 29 = .ok (.if_icmp .ge 54, 3) := by decide +kernel
theorem d_T_same_32 : decode b_T_same 32 = .ok (.aload_n 1, 1) := by decide +kernel
theorem d_T_same_33 : decode b_T_same 33 = .ok (.getfield 59, 3) := by decide +kernel
theorem d_T_same_36 : decode b_T_same 36 = .ok (.iload_n 3, 1) := by decide +kernel
theorem d_T_same_37 : decode b_T_same 37 = .ok (.iaload, 1) := by decide +kernel
theorem d_T_same_38 : decode b_T_same 38 = .ok (.aload_n 2, 1) := by decide +kernel
theorem d_T_same_39 : decode b_T_same 39 = .ok (.getfield 59, 3) := by decide +kernel
theorem d_T_same_42 : decode b_T_same 42 = .ok (.iload_n 3, 1) := by decide +kernel
theorem d_T_same_43 : decode b_T_same 43 = .ok (.iaload, 1) := by decide +kernel
theorem d_T_same_44 : decode b_T_same 44 = .ok (.if_icmp .ne 39, 3) := by decide +kernel
theorem d_T_same_47 : decode b_T_same 47 = .ok (.aload_n 1, 1) := by decide +kernel
theorem d_T_same_48 : decode b_T_same 48 = .ok (.getfield 66, 3) := by decide +kernel
theorem d_T_same_51 : decode b_T_same 51 = .ok (.iload_n 3, 1) := by decide +kernel
theorem d_T_same_52 : decode b_T_same 52 = .ok (.iaload, 1) := by decide +kernel
theorem d_T_same_53 : decode b_T_same 53 = .ok (.aload_n 2, 1) := by decide +kernel
theorem d_T_same_54 : decode b_T_same 54 = .ok (.getfield 66, 3) := by decide +kernel
theorem d_T_same_57 : decode b_T_same 57 = .ok (.iload_n 3, 1) := by decide +kernel
theorem d_T_same_58 : decode b_T_same 58 = .ok (.iaload, 1) := by decide +kernel
theorem d_T_same_59 : decode b_T_same 59 = .ok (.if_icmp .ne 24, 3) := by decide +kernel
theorem d_T_same_62 : decode b_T_same 62 = .ok (.aload_n 1, 1) := by decide +kernel
theorem d_T_same_63 : decode b_T_same 63 = .ok (.getfield 72, 3) := by decide +kernel
theorem d_T_same_66 : decode b_T_same 66 = .ok (.iload_n 3, 1) := by decide +kernel
theorem d_T_same_67 : decode b_T_same 67 = .ok (.iaload, 1) := by decide +kernel
theorem d_T_same_68 : decode b_T_same 68 = .ok (.aload_n 2, 1) := by decide +kernel
theorem d_T_same_69 : decode b_T_same 69 = .ok (.getfield 72, 3) := by decide +kernel
theorem d_T_same_72 : decode b_T_same 72 = .ok (.iload_n 3, 1) := by decide +kernel
theorem d_T_same_73 : decode b_T_same 73 = .ok (.iaload, 1) := by decide +kernel
theorem d_T_same_74 : decode b_T_same 74 = .ok (.if_icmp .ne 9, 3) := by decide +kernel
theorem d_T_same_77 : decode b_T_same 77 = .ok (.iinc 3 1, 3) := by decide +kernel
theorem d_T_same_80 : decode b_T_same 80 = .ok (.goto (-64), 3) := by decide +kernel
theorem d_T_same_83 : decode b_T_same 83 = .ok (.iload_n 3, 1) := by decide +kernel
theorem d_T_same_84 : decode b_T_same 84 = .ok (.ireturn, 1) := by decide +kernel
theorem d_G_init_0 : decode b_G_init 0 = .ok (.aload_n 0, 1) := by decide +kernel
theorem d_G_init_1 : decode b_G_init 1 = .ok (.invokespecial 1, 3) := by decide +kernel
theorem d_G_init_4 : decode b_G_init 4 = .ok (.return_, 1) := by decide +kernel
theorem d_N_init_0 : decode b_N_init 0 = .ok (.aload_n 0, 1) := by decide +kernel
theorem d_N_init_1 : decode b_N_init 1 = .ok (.invokespecial 3, 3) := by decide +kernel
theorem d_N_init_4 : decode b_N_init 4 = .ok (.aload_n 0, 1) := by decide +kernel
theorem d_N_init_5 : decode b_N_init 5 = .ok (.bipush 64, 2) := by decide +kernel
theorem d_N_init_7 : decode b_N_init 7 = .ok (.newarray .int, 2) := by decide +kernel
theorem d_N_init_9 : decode b_N_init 9 = .ok (.putfield 9, 3) := by decide +kernel
theorem d_N_init_12 : decode b_N_init 12 = .ok (.aload_n 0, 1) := by decide +kernel
theorem d_N_init_13 : decode b_N_init 13 = .ok (.bipush 64, 2) := by decide +kernel
theorem d_N_init_15 : decode b_N_init 15 = .ok (.newarray .int, 2) := by decide +kernel
theorem d_N_init_17 : decode b_N_init 17 = .ok (.putfield 15, 3) := by decide +kernel
theorem d_N_init_20 : decode b_N_init 20 = .ok (.aload_n 0, 1) := by decide +kernel
theorem d_N_init_21 : decode b_N_init 21 = .ok (.bipush 64, 2) := by decide +kernel
theorem d_N_init_23 : decode b_N_init 23 = .ok (.newarray .int, 2) := by decide +kernel
theorem d_N_init_25 : decode b_N_init 25 = .ok (.putfield 18, 3) := by decide +kernel
theorem d_N_init_28 : decode b_N_init 28 = .ok (.aload_n 0, 1) := by decide +kernel
theorem d_N_init_29 : decode b_N_init 29 = .ok (.iconst 1, 1) := by decide +kernel
theorem d_N_init_30 : decode b_N_init 30 = .ok (.putfield 21, 3) := by decide +kernel
theorem d_N_init_33 : decode b_N_init 33 = .ok (.aload_n 0, 1) := by decide +kernel
theorem d_N_init_34 : decode b_N_init 34 = .ok (.iconst (-1), 1) := by decide +kernel
theorem d_N_init_35 : decode b_N_init 35 = .ok (.putfield 25, 3) := by decide +kernel
theorem d_N_init_38 : decode b_N_init 38 = .ok (.aload_n 0, 1) := by decide +kernel
theorem d_N_init_39 : decode b_N_init 39 = .ok (.iconst (-1), 1) := by decide +kernel
theorem d_N_init_40 : decode b_N_init 40 = .ok (.putfield 29, 3) := by decide +kernel
theorem d_N_init_43 : decode b_N_init 43 = .ok (.return_, 1) := by decide +kernel
theorem d_N_writes_0 : decode b_N_writes 0 = .ok (.aload_n 0, 1) := by decide +kernel
theorem d_N_writes_1 : decode b_N_writes 1 = .ok (.getfield 29, 3) := by decide +kernel
theorem d_N_writes_4 : decode b_N_writes 4 = .ok (.ifCond .ne 9, 3) := by decide +kernel
theorem d_N_writes_7 : decode b_N_writes 7 = .ok (.aload_n 0, 1) := by decide +kernel
theorem d_N_writes_8 : decode b_N_writes 8 = .ok (.invokevirtual 32, 3) := by decide +kernel
theorem d_N_writes_11 : decode b_N_writes 11 = .ok (.iconst 0, 1) := by decide +kernel
theorem d_N_writes_12 : decode b_N_writes 12 = .ok (.ireturn, 1) := by decide +kernel
theorem d_N_writes_13 : decode b_N_writes 13 = .ok (.aload_n 0, 1) := by decide +kernel
theorem d_N_writes_14 : decode b_N_writes 14 = .ok (.getfield 29, 3) := by decide +kernel
theorem d_N_writes_17 : decode b_N_writes 17 = .ok (.ifCond .le 13, 3) := by decide +kernel
theorem d_N_writes_20 : decode b_N_writes 20 = .ok (.aload_n 0, 1) := by decide +kernel
theorem d_N_writes_21 : decode b_N_writes 21 = .ok (.dup, 1) := by decide +kernel
theorem d_N_writes_22 : decode b_N_writes 22 = .ok (.getfield 29, 3) := by decide +kernel
theorem d_N_writes_25 : decode b_N_writes 25 = .ok (.iconst 1, 1) := by decide +kernel
theorem d_N_writes_26 : decode b_N_writes 26 = .ok (.isub, 1) := by decide +kernel
theorem d_N_writes_27 : decode b_N_writes 27 = .ok (.putfield 29, 3) := by decide +kernel
theorem d_N_writes_30 : decode b_N_writes 30 = .ok (.aload_n 0, 1) := by decide +kernel
theorem d_N_writes_31 : decode b_N_writes 31 = .ok (.dup, 1) := by decide +kernel
theorem d_N_writes_32 : decode b_N_writes 32 = .ok (.getfield 35, 3) := by decide +kernel
theorem d_N_writes_35 : decode b_N_writes 35 = .ok (.iconst 1, 1) := by decide +kernel
theorem d_N_writes_36 : decode b_N_writes 36 = .ok (.iadd, 1) := by decide +kernel
theorem d_N_writes_37 : decode b_N_writes 37 = .ok (.putfield 35, 3) := by decide +kernel
theorem d_N_writes_40 : decode b_N_writes 40 = .ok (.iconst 1, 1) := by decide +kernel
theorem d_N_writes_41 : decode b_N_writes 41 = .ok (.ireturn, 1) := by decide +kernel
theorem d_N_goDown_0 : decode b_N_goDown 0 = .ok (.aload_n 0, 1) := by decide +kernel
theorem d_N_goDown_1 : decode b_N_goDown 1 = .ok (.iconst 0, 1) := by decide +kernel
theorem d_N_goDown_2 : decode b_N_goDown 2 = .ok (.putfield 21, 3) := by decide +kernel
theorem d_N_goDown_5 : decode b_N_goDown 5 = .ok (.aload_n 0, 1) := by decide +kernel
theorem d_N_goDown_6 : decode b_N_goDown 6 = .ok (.iconst 0, 1) := by decide +kernel
theorem d_N_goDown_7 : decode b_N_goDown 7 = .ok (.putfield 38, 3) := by decide +kernel
theorem d_N_goDown_10 : decode b_N_goDown 10 = .ok (.aload_n 0, 1) := by decide +kernel
theorem d_N_goDown_11 : decode b_N_goDown 11 = .ok (.iconst (-1), 1) := by decide +kernel
theorem d_N_goDown_12 : decode b_N_goDown 12 = .ok (.putfield 29, 3) := by decide +kernel
theorem d_N_goDown_15 : decode b_N_goDown 15 = .ok (.return_, 1) := by decide +kernel
theorem d_N_add_0 : decode b_N_add 0 = .ok (.aload_n 0, 1) := by decide +kernel
theorem d_N_add_1 : decode b_N_add 1 = .ok (.invokevirtual 41, 3) := by decide +kernel
theorem d_N_add_4 : decode b_N_add 4 = .ok (.ifCond .ne 5, 3) := by decide +kernel
theorem d_N_add_7 : decode b_N_add 7 = .ok (.iconst 0, 1) := by decide +kernel
theorem d_N_add_8 : decode b_N_add 8 = .ok (.ireturn, 1) := by decide +kernel
theorem d_N_add_9 : decode b_N_add 9 = .ok (.aload_n 0, 1) := by decide +kernel
theorem d_N_add_10 : decode b_N_add 10 = .ok (.getfield 9, 3) := by decide +kernel
theorem d_N_add_13 : decode b_N_add 13 = .ok (.aload_n 0, 1) := by decide +kernel
theorem d_N_add_14 : decode b_N_add 14 = .ok (.getfield 44, 3) := by decide +kernel
theorem d_N_add_17 : decode b_N_add 17 = .ok (.iload_n 1, 1) := by decide +kernel
theorem d_N_add_18 : decode b_N_add 18 = .ok (.iastore, 1) := by decide +kernel
theorem d_N_add_19 : decode b_N_add 19 = .ok (.aload_n 0, 1) := by decide +kernel
theorem d_N_add_20 : decode b_N_add 20 = .ok (.getfield 15, 3) := by decide +kernel
theorem d_N_add_23 : decode b_N_add 23 = .ok (.aload_n 0, 1) := by decide +kernel
theorem d_N_add_24 : decode b_N_add 24 = .ok (.getfield 44, 3) := by decide +kernel
theorem d_N_add_27 : decode b_N_add 27 = .ok (.iload_n 2, 1) := by decide +kernel
theorem d_N_add_28 : decode b_N_add 28 = .ok (.iastore, 1) := by decide +kernel
theorem d_N_add_29 : decode b_N_add 29 = .ok (.aload_n 0, 1) := by decide +kernel
theorem d_N_add_30 : decode b_N_add 30 = .ok (.getfield 18, 3) := by decide +kernel
theorem d_N_add_33 : decode b_N_add 33 = .ok (.aload_n 0, 1) := by decide +kernel
theorem d_N_add_34 : decode b_N_add 34 = .ok (.getfield 44, 3) := by decide +kernel
theorem d_N_add_37 : decode b_N_add 37 = .ok (.iload_n 3, 1) := by decide +kernel
theorem d_N_add_38 : decode b_N_add 38 = .ok (.iastore, 1) := by decide +kernel
theorem d_N_add_39 : decode b_N_add 39 = .ok (.aload_n 0, 1) := by decide +kernel
theorem d_N_add_40 : decode b_N_add 40 = .ok (.dup, 1) := by decide +kernel
theorem d_N_add_41 : decode b_N_add 41 = .ok (.getfield 44, 3) := by decide +kernel
theorem d_N_add_44 : decode b_N_add 44 = .ok (.iconst 1, 1) := by decide +kernel
theorem d_N_add_45 : decode b_N_add 45 = .ok (.iadd, 1) := by decide +kernel
theorem d_N_add_46 : decode b_N_add 46 = .ok (.putfield 44, 3) := by decide +kernel
theorem d_N_add_49 : decode b_N_add 49 = .ok (.iconst 1, 1) := by decide +kernel
theorem d_N_add_50 : decode b_N_add 50 = .ok (.ireturn, 1) := by decide +kernel
theorem d_N_cut_0 : decode b_N_cut 0 = .ok (.aload_n 0, 1) := by decide +kernel
theorem d_N_cut_1 : decode b_N_cut 1 = .ok (.invokevirtual 41, 3) := by decide +kernel
theorem d_N_cut_4 : decode b_N_cut 4 = .ok (.ifCond .ne 5, 3) := by decide +kernel
theorem d_N_cut_7 : decode b_N_cut 7 = .ok (.iconst 0, 1) := by decide +kernel
theorem d_N_cut_8 : decode b_N_cut 8 = .ok (.ireturn, 1) := by decide +kernel
theorem d_N_cut_9 : decode b_N_cut 9 = .ok (.aload_n 0, 1) := by decide +kernel
theorem d_N_cut_10 : decode b_N_cut 10 = .ok (.iload_n 1, 1) := by decide +kernel
theorem d_N_cut_11 : decode b_N_cut 11 = .ok (.putfield 44, 3) := by decide +kernel
theorem d_N_cut_14 : decode b_N_cut 14 = .ok (.iconst 1, 1) := by decide +kernel
theorem d_N_cut_15 : decode b_N_cut 15 = .ok (.ireturn, 1) := by decide +kernel
theorem d_N_becomes_0 : decode b_N_becomes 0 = .ok (.aload_n 0, 1) := by decide +kernel
theorem d_N_becomes_1 : decode b_N_becomes 1 = .ok (.invokevirtual 41, 3) := by decide +kernel
theorem d_N_becomes_4 : decode b_N_becomes 4 = .ok (.ifCond .ne 5, 3) := by decide +kernel
theorem d_N_becomes_7 : decode b_N_becomes 7 = .ok (.iconst 0, 1) := by decide +kernel
theorem d_N_becomes_8 : decode b_N_becomes 8 = .ok (.ireturn, 1) := by decide +kernel
theorem d_N_becomes_9 : decode b_N_becomes 9 = .ok (.aload_n 0, 1) := by decide +kernel
theorem d_N_becomes_10 : decode b_N_becomes 10 = .ok (.iload_n 1, 1) := by decide +kernel
theorem d_N_becomes_11 : decode b_N_becomes 11 = .ok (.putfield 47, 3) := by decide +kernel
theorem d_N_becomes_14 : decode b_N_becomes 14 = .ok (.aload_n 0, 1) := by decide +kernel
theorem d_N_becomes_15 : decode b_N_becomes 15 = .ok (.iconst 0, 1) := by decide +kernel
theorem d_N_becomes_16 : decode b_N_becomes 16 = .ok (.putfield 38, 3) := by decide +kernel
theorem d_N_becomes_19 : decode b_N_becomes 19 = .ok (.iconst 1, 1) := by decide +kernel
theorem d_N_becomes_20 : decode b_N_becomes 20 = .ok (.ireturn, 1) := by decide +kernel
theorem d_N_termOf_0 : decode b_N_termOf 0 = .ok (.iload_n 1, 1) := by decide +kernel
theorem d_N_termOf_1 : decode b_N_termOf 1 = .ok (.ifCond .ge 7, 3) := by decide +kernel
theorem d_N_termOf_4 : decode b_N_termOf 4 = .ok (.iconst 0, 1) := by decide +kernel
theorem d_N_termOf_5 : decode b_N_termOf 5 = .ok (.goto 9, 3) := by decide +kernel
theorem d_N_termOf_8 : decode b_N_termOf 8 = .ok (.aload_n 0, 1) := by decide +kernel
theorem d_N_termOf_9 : decode b_N_termOf 9 = .ok (.getfield 9, 3) := by decide +kernel
theorem d_N_termOf_12 : decode b_N_termOf 12 = .ok (.iload_n 1, 1) := by decide +kernel
theorem d_N_termOf_13 : decode b_N_termOf 13 = .ok (.iaload, 1) := by decide +kernel
theorem d_N_termOf_14 : decode b_N_termOf 14 = .ok (.ireturn, 1) := by decide +kernel
end
section
theorem d_D_init_0 : decode b_D_init 0 = .ok (.aload_n 0, 1) := by decide +kernel
theorem d_D_init_1 : decode b_D_init 1 = .ok (.invokespecial 1, 3) := by decide +kernel
theorem d_D_init_4 : decode b_D_init 4 = .ok (.aload_n 0, 1) := by decide +kernel
theorem d_D_init_5 : decode b_D_init 5 = .ok (.iconst 2, 1) := by decide +kernel
theorem d_D_init_6 : decode b_D_init 6 = .ok (.newarray .int, 2) := by decide +kernel
theorem d_D_init_8 : decode b_D_init 8 = .ok (.putfield 7, 3) := by decide +kernel
theorem d_D_init_11 : decode b_D_init 11 = .ok (.aload_n 0, 1) := by decide +kernel
theorem d_D_init_12 : decode b_D_init 12 = .ok (.iconst 2, 1) := by decide +kernel
theorem d_D_init_13 : decode b_D_init 13 = .ok (.newarray .int, 2) := by decide +kernel
theorem d_D_init_15 : decode b_D_init 15 = .ok (.putfield 13, 3) := by decide +kernel
theorem d_D_init_18 : decode b_D_init 18 = .ok (.aload_n 0, 1) := by decide +kernel
theorem d_D_init_19 : decode b_D_init 19 = .ok (.iconst 2, 1) := by decide +kernel
theorem d_D_init_20 : decode b_D_init 20 = .ok (.newarray .boolean, 2) := by decide +kernel
theorem d_D_init_22 : decode b_D_init 22 = .ok (.putfield 16, 3) := by decide +kernel
theorem d_D_init_25 : decode b_D_init 25 = .ok (.aload_n 0, 1) := by decide +kernel
theorem d_D_init_26 : decode b_D_init 26 = .ok (.iconst 2, 1) := by decide +kernel
theorem d_D_init_27 : decode b_D_init 27 = .ok (.newarray .boolean, 2) := by decide +kernel
theorem d_D_init_29 : decode b_D_init 29 = .ok (.putfield 20, 3) := by decide +kernel
theorem d_D_init_32 : decode b_D_init 32 = .ok (.aload_n 0, 1) := by decide +kernel
theorem d_D_init_33 : decode b_D_init 33 = .ok (.iconst 2, 1) := by decide +kernel
theorem d_D_init_34 : decode b_D_init 34 = .ok (.newarray .int, 2) := by decide +kernel
theorem d_D_init_36 : decode b_D_init 36 = .ok (.putfield 23, 3) := by decide +kernel
theorem d_D_init_39 : decode b_D_init 39 = .ok (.aload_n 0, 1) := by decide +kernel
theorem d_D_init_40 : decode b_D_init 40 = .ok (.iconst 2, 1) := by decide +kernel
theorem d_D_init_41 : decode b_D_init 41 = .ok (.newarray .int, 2) := by decide +kernel
theorem d_D_init_43 : decode b_D_init 43 = .ok (.putfield 26, 3) := by decide +kernel
theorem d_D_init_46 : decode b_D_init 46 = .ok (.aload_n 0, 1) := by decide +kernel
theorem d_D_init_47 : decode b_D_init 47 = .ok (.iconst 2, 1) := by decide +kernel
theorem d_D_init_48 : decode b_D_init 48 = .ok (.newarray .int, 2) := by decide +kernel
theorem d_D_init_50 : decode b_D_init 50 = .ok (.putfield 29, 3) := by decide +kernel
theorem d_D_init_53 : decode b_D_init 53 = .ok (.aload_n 0, 1) := by decide +kernel
theorem d_D_init_54 : decode b_D_init 54 = .ok (.sipush 128, 3) := by decide +kernel
theorem d_D_init_57 : decode b_D_init 57 = .ok (.newarray .int, 2) := by decide +kernel
theorem d_D_init_59 : decode b_D_init 59 = .ok (.putfield 32, 3) := by decide +kernel
theorem d_D_init_62 : decode b_D_init 62 = .ok (.aload_n 0, 1) := by decide +kernel
theorem d_D_init_63 : decode b_D_init 63 = .ok (.sipush 128, 3) := by decide +kernel
theorem d_D_init_66 : decode b_D_init 66 = .ok (.newarray .int, 2) := by decide +kernel
theorem d_D_init_68 : decode b_D_init 68 = .ok (.putfield 35, 3) := by decide +kernel
theorem d_D_init_71 : decode b_D_init 71 = .ok (.aload_n 0, 1) := by decide +kernel
theorem d_D_init_72 : decode b_D_init 72 = .ok (.sipush 128, 3) := by decide +kernel
theorem d_D_init_75 : decode b_D_init 75 = .ok (.newarray .int, 2) := by decide +kernel
theorem d_D_init_77 : decode b_D_init 77 = .ok (.putfield 38, 3) := by decide +kernel
theorem d_D_init_80 : decode b_D_init 80 = .ok (.aload_n 0, 1) := by decide +kernel
theorem d_D_init_81 : decode b_D_init 81 = .ok (.sipush 144, 3) := by decide +kernel
theorem d_D_init_84 : decode b_D_init 84 = .ok (.newarray .int, 2) := by decide +kernel
theorem d_D_init_86 : decode b_D_init 86 = .ok (.putfield 41, 3) := by decide +kernel
theorem d_D_init_89 : decode b_D_init 89 = .ok (.aload_n 0, 1) := by decide +kernel
theorem d_D_init_90 : decode b_D_init 90 = .ok (.bipush 9, 2) := by decide +kernel
theorem d_D_init_92 : decode b_D_init 92 = .ok (.newarray .int, 2) := by decide +kernel
theorem d_D_init_94 : decode b_D_init 94 = .ok (.putfield 44, 3) := by decide +kernel
theorem d_D_init_97 : decode b_D_init 97 = .ok (.aload_n 0, 1) := by decide +kernel
theorem d_D_init_98 : decode b_D_init 98 = .ok (.getfield 7, 3) := by decide +kernel
theorem d_D_init_101 : decode b_D_init 101 = .ok (.iconst 0, 1) := by decide +kernel
theorem d_D_init_102 : decode b_D_init 102 = .ok (.iconst 2, 1) := by decide +kernel
theorem d_D_init_103 : decode b_D_init 103 = .ok (.iastore, 1) := by decide +kernel
theorem d_D_init_104 : decode b_D_init 104 = .ok (.aload_n 0, 1) := by decide +kernel
theorem d_D_init_105 : decode b_D_init 105 = .ok (.getfield 20, 3) := by decide +kernel
theorem d_D_init_108 : decode b_D_init 108 = .ok (.iconst 0, 1) := by decide +kernel
theorem d_D_init_109 : decode b_D_init 109 = .ok (.iconst 1, 1) := by decide +kernel
theorem d_D_init_110 : decode b_D_init 110 = .ok (.bastore, 1) := by decide +kernel
theorem d_D_init_111 : decode b_D_init 111 = .ok (.aload_n 0, 1) := by decide +kernel
theorem d_D_init_112 : decode b_D_init 112 = .ok (.getfield 23, 3) := by decide +kernel
theorem d_D_init_115 : decode b_D_init 115 = .ok (.iconst 0, 1) := by decide +kernel
theorem d_D_init_116 : decode b_D_init 116 = .ok (.iconst (-1), 1) := by decide +kernel
theorem d_D_init_117 : decode b_D_init 117 = .ok (.iastore, 1) := by decide +kernel
theorem d_D_init_118 : decode b_D_init 118 = .ok (.aload_n 0, 1) := by decide +kernel
theorem d_D_init_119 : decode b_D_init 119 = .ok (.getfield 23, 3) := by decide +kernel
theorem d_D_init_122 : decode b_D_init 122 = .ok (.iconst 1, 1) := by decide +kernel
theorem d_D_init_123 : decode b_D_init 123 = .ok (.iconst (-1), 1) := by decide +kernel
theorem d_D_init_124 : decode b_D_init 124 = .ok (.iastore, 1) := by decide +kernel
theorem d_D_init_125 : decode b_D_init 125 = .ok (.aload_n 0, 1) := by decide +kernel
theorem d_D_init_126 : decode b_D_init 126 = .ok (.getfield 26, 3) := by decide +kernel
theorem d_D_init_129 : decode b_D_init 129 = .ok (.iconst 0, 1) := by decide +kernel
theorem d_D_init_130 : decode b_D_init 130 = .ok (.iconst (-1), 1) := by decide +kernel
theorem d_D_init_131 : decode b_D_init 131 = .ok (.iastore, 1) := by decide +kernel
theorem d_D_init_132 : decode b_D_init 132 = .ok (.aload_n 0, 1) := by decide +kernel
theorem d_D_init_133 : decode b_D_init 133 = .ok (.getfield 26, 3) := by decide +kernel
theorem d_D_init_136 : decode b_D_init 136 = .ok (.iconst 1, 1) := by decide +kernel
theorem d_D_init_137 : decode b_D_init 137 = .ok (.iconst (-1), 1) := by decide +kernel
theorem d_D_init_138 : decode b_D_init 138 = .ok (.iastore, 1) := by decide +kernel
theorem d_D_init_139 : decode b_D_init 139 = .ok (.return_, 1) := by decide +kernel
theorem d_D_isNode_0 : decode b_D_isNode 0 = .ok (.iload_n 0, 1) := by decide +kernel
theorem d_D_isNode_1 : decode b_D_isNode 1 = .ok (.ifCond .eq 8, 3) := by decide +kernel
theorem d_D_isNode_4 : decode b_D_isNode 4 = .ok (.iload_n 0, 1) := by decide +kernel
theorem d_D_isNode_5 : decode b_D_isNode 5 = .ok (.iconst 1, 1) := by decide +kernel
theorem d_D_isNode_6 : decode b_D_isNode 6 = .ok (.if_icmp .ne 7, 3) := by decide +kernel
theorem d_D_isNode_9 : decode b_D_isNode 9 = .ok (.iconst 1, 1) := by decide +kernel
theorem d_D_isNode_10 : decode b_D_isNode 10 = .ok (.goto 4, 3) := by decide +kernel
theorem d_D_isNode_13 : decode b_D_isNode 13 = .ok (.iconst 0, 1) := by decide +kernel
theorem d_D_isNode_14 : decode b_D_isNode 14 = .ok (.ireturn, 1) := by decide +kernel
theorem d_D_writes_0 : decode b_D_writes 0 = .ok (.aload_n 0, 1) := by decide +kernel
theorem d_D_writes_1 : decode b_D_writes 1 = .ok (.getfield 26, 3) := by decide +kernel
theorem d_D_writes_4 : decode b_D_writes 4 = .ok (.iload_n 1, 1) := by decide +kernel
theorem d_D_writes_5 : decode b_D_writes 5 = .ok (.iaload, 1) := by decide +kernel
theorem d_D_writes_6 : decode b_D_writes 6 = .ok (.ifCond .ne 26, 3) := by decide +kernel
theorem d_D_writes_9 : decode b_D_writes 9 = .ok (.aload_n 0, 1) := by decide +kernel
theorem d_D_writes_10 : decode b_D_writes 10 = .ok (.getfield 16, 3) := by decide +kernel
theorem d_D_writes_13 : decode b_D_writes 13 = .ok (.iload_n 1, 1) := by decide +kernel
theorem d_D_writes_14 : decode b_D_writes 14 = .ok (.iconst 1, 1) := by decide +kernel
theorem d_D_writes_15 : decode b_D_writes 15 = .ok (.bastore, 1) := by decide +kernel
theorem d_D_writes_16 : decode b_D_writes 16 = .ok (.aload_n 0, 1) := by decide +kernel
theorem d_D_writes_17 : decode b_D_writes 17 = .ok (.getfield 20, 3) := by decide +kernel
theorem d_D_writes_20 : decode b_D_writes 20 = .ok (.iload_n 1, 1) := by decide +kernel
theorem d_D_writes_21 : decode b_D_writes 21 = .ok (.iconst 0, 1) := by decide +kernel
theorem d_D_writes_22 : decode b_D_writes 22 = .ok (.bastore, 1) := by decide +kernel
theorem d_D_writes_23 : decode b_D_writes 23 = .ok (.aload_n 0, 1) := by decide +kernel
theorem d_D_writes_24 : decode b_D_writes 24 = .ok (.getfield 26, 3) := by decide +kernel
theorem d_D_writes_27 : decode b_D_writes 27 = .ok (.iload_n 1, 1) := by decide +kernel
theorem d_D_writes_28 : decode b_D_writes 28 = .ok (.iconst (-1), 1) := by decide +kernel
theorem d_D_writes_29 : decode b_D_writes 29 = .ok (.iastore, 1) := by decide +kernel
theorem d_D_writes_30 : decode b_D_writes 30 = .ok (.iconst 0, 1) := by decide +kernel
theorem d_D_writes_31 : decode b_D_writes 31 = .ok (.ireturn, 1) := by decide +kernel
theorem d_D_writes_32 : decode b_D_writes 32 = .ok (.aload_n 0, 1) := by decide +kernel
theorem d_D_writes_33 : decode b_D_writes 33 = .ok (.getfield 26, 3) := by decide +kernel
theorem d_D_writes_36 : decode b_D_writes 36 = .ok (.iload_n 1, 1) := by decide +kernel
theorem d_D_writes_37 : decode b_D_writes 37 = .ok (.aload_n 0, 1) := by decide +kernel
theorem d_D_writes_38 : decode b_D_writes 38 = .ok (.getfield 26, 3) := by decide +kernel
theorem d_D_writes_41 : decode b_D_writes 41 = .ok (.iload_n 1, 1) := by decide +kernel
theorem d_D_writes_42 : decode b_D_writes 42 = .ok (.iaload, 1) := by decide +kernel
theorem d_D_writes_43 : decode b_D_writes 43 = .ok (.ifCond .le 14, 3) := by decide +kernel
theorem d_D_writes_46 : decode b_D_writes 46 = .ok (.aload_n 0, 1) := by decide +kernel
theorem d_D_writes_47 : decode b_D_writes 47 = .ok (.getfield 26, 3) := by decide +kernel
theorem d_D_writes_50 : decode b_D_writes 50 = .ok (.iload_n 1, 1) := by decide +kernel
theorem d_D_writes_51 : decode b_D_writes 51 = .ok (.iaload, 1) := by decide +kernel
theorem d_D_writes_52 : decode b_D_writes 52 = .ok (.iconst 1, 1) := by decide +kernel
theorem d_D_writes_53 : decode b_D_writes 53 = .ok (.isub, 1) := by decide +kernel
theorem d_D_writes_54 : decode b_D_writes 54 = .ok (.goto 9, 3) := by decide +kernel
theorem d_D_writes_57 : decode b_D_writes 57 = .ok (.aload_n 0, 1) := by decide +kernel
theorem d_D_writes_58 : decode b_D_writes 58 = .ok (.getfield 26, 3) := by decide +kernel
theorem d_D_writes_61 : decode b_D_writes 61 = .ok (.iload_n 1, 1) := by decide +kernel
theorem d_D_writes_62 : decode b_D_writes 62 = .ok (.iaload, 1) := by decide +kernel
theorem d_D_writes_63 : decode b_D_writes 63 = .ok (.iastore, 1) := by decide +kernel
theorem d_D_writes_64 : decode b_D_writes 64 = .ok (.aload_n 0, 1) := by decide +kernel
theorem d_D_writes_65 : decode b_D_writes 65 = .ok (.getfield 29, 3) := by decide +kernel
theorem d_D_writes_68 : decode b_D_writes 68 = .ok (.iload_n 1, 1) := by decide +kernel
theorem d_D_writes_69 : decode b_D_writes 69 = .ok (.dup2, 1) := by decide +kernel
theorem d_D_writes_70 : decode b_D_writes 70 = .ok (.iaload, 1) := by decide +kernel
theorem d_D_writes_71 : decode b_D_writes 71 = .ok (.iconst 1, 1) := by decide +kernel
theorem d_D_writes_72 : decode b_D_writes 72 = .ok (.iadd, 1) := by decide +kernel
theorem d_D_writes_73 : decode b_D_writes 73 = .ok (.iastore, 1) := by decide +kernel
theorem d_D_writes_74 : decode b_D_writes 74 = .ok (.iconst 1, 1) := by decide +kernel
theorem d_D_writes_75 : decode b_D_writes 75 = .ok (.ireturn, 1) := by decide +kernel
theorem d_D_putBehind_0 : decode b_D_putBehind 0 = .ok (.aload_n 0, 1) := by decide +kernel
theorem d_D_putBehind_1 : decode b_D_putBehind 1 = .ok (.iload_n 1, 1) := by decide +kernel
theorem d_D_putBehind_2 : decode b_D_putBehind 2 = .ok (.invokevirtual 47, 3) := by decide +kernel
theorem d_D_putBehind_5 : decode b_D_putBehind 5 = .ok (.ifCond .ne 5, 3) := by decide +kernel
theorem d_D_putBehind_8 : decode b_D_putBehind 8 = .ok (.iconst 0, 1) := by decide +kernel
theorem d_D_putBehind_9 : decode b_D_putBehind 9 = .ok (.ireturn, 1) := by decide +kernel
theorem d_D_putBehind_10 : decode b_D_putBehind 10 = .ok (.bipush 64, 2) := by decide +kernel
theorem d_D_putBehind_12 : decode b_D_putBehind 12 = .ok (.iload_n 1, 1) := by decide +kernel
theorem d_D_putBehind_13 : decode b_D_putBehind 13 = .ok (.imul, 1) := by decide +kernel
theorem d_D_putBehind_14 : decode b_D_putBehind 14 = .ok (.aload_n 0, 1) := by decide +kernel
theorem d_D_putBehind_15 : decode b_D_putBehind 15 = .ok (.getfield 13, 3) := by decide +kernel
theorem d_D_putBehind_18 : decode b_D_putBehind 18 = .ok (.iload_n 1, 1) := by decide +kernel
theorem d_D_putBehind_19 : decode b_D_putBehind 19 = .ok (.iaload, 1) := by decide +kernel
theorem d_D_putBehind_20 : decode b_D_putBehind 20 = .ok (.iadd, 1) := by decide +kernel
theorem d_D_putBehind_21 : decode b_D_putBehind 21 = .ok (.istore 5, 2) := by decide +kernel
theorem d_D_putBehind_23 : decode b_D_putBehind 23 = .ok (.aload_n 0, 1) := by decide +kernel
theorem d_D_putBehind_24 : decode b_D_putBehind 24 = .ok (.getfield 32, 3) := by decide +kernel
theorem d_D_putBehind_27 : decode b_D_putBehind 27 = .ok (.iload 5, 2) := by decide +kernel
theorem d_D_putBehind_29 : decode b_D_putBehind 29 = .ok (.iload_n 2, 1) := by decide +kernel
theorem d_D_putBehind_30 : decode b_D_putBehind 30 = .ok (.iastore, 1) := by decide +kernel
theorem d_D_putBehind_31 : decode b_D_putBehind 31 = .ok (.aload_n 0, 1) := by decide +kernel
theorem d_D_putBehind_32 : decode b_D_putBehind 32 = .ok (.getfield 35, 3) := by decide +kernel
theorem d_D_putBehind_35 : decode b_D_putBehind 35 = .ok (.iload 5, 2) := by decide +kernel
theorem d_D_putBehind_37 : decode b_D_putBehind 37 = .ok (.iload_n 3, 1) := by decide +kernel
theorem d_D_putBehind_38 : decode b_D_putBehind 38 = .ok (.iastore, 1) := by decide +kernel
theorem d_D_putBehind_39 : decode b_D_putBehind 39 = .ok (.aload_n 0, 1) := by decide +kernel
theorem d_D_putBehind_40 : decode b_D_putBehind 40 = .ok (.getfield 38, 3) := by decide +kernel
theorem d_D_putBehind_43 : decode b_D_putBehind 43 = .ok (.iload 5, 2) := by decide +kernel
theorem d_D_putBehind_45 : decode b_D_putBehind 45 = .ok (.iload 4, 2) := by decide +kernel
theorem d_D_putBehind_47 : decode b_D_putBehind 47 = .ok (.iastore, 1) := by decide +kernel
theorem d_D_putBehind_48 : decode b_D_putBehind 48 = .ok (.aload_n 0, 1) := by decide +kernel
theorem d_D_putBehind_49 : decode b_D_putBehind 49 = .ok (.getfield 13, 3) := by decide +kernel
theorem d_D_putBehind_52 : decode b_D_putBehind 52 = .ok (.iload_n 1, 1) := by decide +kernel
theorem d_D_putBehind_53 : decode b_D_putBehind 53 = .ok (.dup2, 1) := by decide +kernel
theorem d_D_putBehind_54 : decode b_D_putBehind 54 = .ok (.iaload, 1) := by decide +kernel
theorem d_D_putBehind_55 : decode b_D_putBehind 55 = .ok (.iconst 1, 1) := by decide +kernel
theorem d_D_putBehind_56 : decode b_D_putBehind 56 = .ok (.iadd, 1) := by decide +kernel
theorem d_D_putBehind_57 : decode b_D_putBehind 57 = .ok (.iastore, 1) := by decide +kernel
theorem d_D_putBehind_58 : decode b_D_putBehind 58 = .ok (.iconst 1, 1) := by decide +kernel
theorem d_D_putBehind_59 : decode b_D_putBehind 59 = .ok (.ireturn, 1) := by decide +kernel
theorem d_D_cutTo_0 : decode b_D_cutTo 0 = .ok (.aload_n 0, 1) := by decide +kernel
theorem d_D_cutTo_1 : decode b_D_cutTo 1 = .ok (.iload_n 1, 1) := by decide +kernel
theorem d_D_cutTo_2 : decode b_D_cutTo 2 = .ok (.invokevirtual 47, 3) := by decide +kernel
theorem d_D_cutTo_5 : decode b_D_cutTo 5 = .ok (.ifCond .ne 5, 3) := by decide +kernel
theorem d_D_cutTo_8 : decode b_D_cutTo 8 = .ok (.iconst 0, 1) := by decide +kernel
theorem d_D_cutTo_9 : decode b_D_cutTo 9 = .ok (.ireturn, 1) := by decide +kernel
theorem d_D_cutTo_10 : decode b_D_cutTo 10 = .ok (.aload_n 0, 1) := by decide +kernel
theorem d_D_cutTo_11 : decode b_D_cutTo 11 = .ok (.getfield 13, 3) := by decide +kernel
theorem d_D_cutTo_14 : decode b_D_cutTo 14 = .ok (.iload_n 1, 1) := by decide +kernel
theorem d_D_cutTo_15 : decode b_D_cutTo 15 = .ok (.iload_n 2, 1) := by decide +kernel
theorem d_D_cutTo_16 : decode b_D_cutTo 16 = .ok (.iastore, 1) := by decide +kernel
theorem d_D_cutTo_17 : decode b_D_cutTo 17 = .ok (.iconst 1, 1) := by decide +kernel
theorem d_D_cutTo_18 : decode b_D_cutTo 18 = .ok (.ireturn, 1) := by decide +kernel
theorem d_D_becomeTerm_0 : decode b_D_becomeTerm 0 = .ok (.aload_n 0, 1) := by decide +kernel
theorem d_D_becomeTerm_1 : decode b_D_becomeTerm 1 = .ok (.iload_n 1, 1) := by decide +kernel
theorem d_D_becomeTerm_2 : decode b_D_becomeTerm 2 = .ok (.invokevirtual 47, 3) := by decide +kernel
theorem d_D_becomeTerm_5 : decode b_D_becomeTerm 5 = .ok (.ifCond .ne 5, 3) := by decide +kernel
theorem d_D_becomeTerm_8 : decode b_D_becomeTerm 8 = .ok (.iconst 0, 1) := by decide +kernel
theorem d_D_becomeTerm_9 : decode b_D_becomeTerm 9 = .ok (.ireturn, 1) := by decide +kernel
theorem d_D_becomeTerm_10 : decode b_D_becomeTerm 10 = .ok (.aload_n 0, 1) := by decide +kernel
theorem d_D_becomeTerm_11 : decode b_D_becomeTerm 11 = .ok (.getfield 7, 3) := by decide +kernel
theorem d_D_becomeTerm_14 : decode b_D_becomeTerm 14 = .ok (.iload_n 1, 1) := by decide +kernel
theorem d_D_becomeTerm_15 : decode b_D_becomeTerm 15 = .ok (.iload_n 2, 1) := by decide +kernel
theorem d_D_becomeTerm_16 : decode b_D_becomeTerm 16 = .ok (.iastore, 1) := by decide +kernel
theorem d_D_becomeTerm_17 : decode b_D_becomeTerm 17 = .ok (.iconst 1, 1) := by decide +kernel
theorem d_D_becomeTerm_18 : decode b_D_becomeTerm 18 = .ok (.ireturn, 1) := by decide +kernel
theorem d_D_remove_0 : decode b_D_remove 0 = .ok (.aload_n 0, 1) := by decide +kernel
theorem d_D_remove_1 : decode b_D_remove 1 = .ok (.dup, 1) := by decide +kernel
theorem d_D_remove_2 : decode b_D_remove 2 = .ok (.getfield 50, 3) := by decide +kernel
theorem d_D_remove_5 : decode b_D_remove 5 = .ok (.iconst 1, 1) := by decide +kernel
theorem d_D_remove_6 : decode b_D_remove 6 = .ok (.isub, 1) := by decide +kernel
theorem d_D_remove_7 : decode b_D_remove 7 = .ok (.putfield 50, 3) := by decide +kernel
theorem d_D_remove_10 : decode b_D_remove 10 = .ok (.bipush 9, 2) := by decide +kernel
theorem d_D_remove_12 : decode b_D_remove 12 = .ok (.iload_n 1, 1) := by decide +kernel
theorem d_D_remove_13 : decode b_D_remove 13 = .ok (.imul, 1) := by decide +kernel
theorem d_D_remove_14 : decode b_D_remove 14 = .ok (.istore_n 2, 1) := by decide +kernel
theorem d_D_remove_15 : decode b_D_remove 15 = .ok (.iload_n 2, 1) := by decide +kernel
theorem d_D_remove_16 : decode b_D_remove 16 = .ok (.bipush 9, 2) := by decide +kernel
theorem d_D_remove_18 : decode b_D_remove 18 = .ok (.aload_n 0, 1) := by decide +kernel
theorem d_D_remove_19 : decode b_D_remove 19 = .ok (.getfield 50, 3) := by decide +kernel
theorem d_D_remove_22 : decode b_D_remove 22 = .ok (.imul, 1) := by decide +kernel
theorem d_D_remove_23 : decode b_D_remove 23 = .ok (.if_icmp .ge 24, 3) := by decide +kernel
theorem d_D_remove_26 : decode b_D_remove 26 = .ok (.aload_n 0, 1) := by decide +kernel
theorem d_D_remove_27 : decode b_D_remove 27 = .ok (.getfield 41, 3) := by decide +kernel
theorem d_D_remove_30 : decode b_D_remove 30 = .ok (.iload_n 2, 1) := by decide +kernel
theorem d_D_remove_31 : decode b_D_remove 31 = .ok (.aload_n 0, 1) := by decide +kernel
theorem d_D_remove_32 : decode b_D_remove 32 = .ok (.getfield 41, 3) := by decide +kernel
theorem d_D_remove_35 : decode b_D_remove 35 = .ok (.iload_n 2, 1) := by decide +kernel
theorem d_D_remove_36 : decode b_D_remove 36 = .ok (.bipush 9, 2) := by decide +kernel
theorem d_D_remove_38 : decode b_D_remove 38 = .ok (.iadd, 1) := by decide +kernel
theorem d_D_remove_39 : decode b_D_remove 39 = .ok (.iaload, 1) := by decide +kernel
theorem d_D_remove_40 : decode b_D_remove 40 = .ok (.iastore, 1) := by decide +kernel
theorem d_D_remove_41 : decode b_D_remove 41 = .ok (.iinc 2 1, 3) := by decide +kernel
theorem d_D_remove_44 : decode b_D_remove 44 = .ok (.goto (-29), 3) := by decide +kernel
theorem d_D_remove_47 : decode b_D_remove 47 = .ok (.return_, 1) := by decide +kernel
theorem d_D_put_0 : decode b_D_put 0 = .ok (.iload_n 1, 1) := by decide +kernel
theorem d_D_put_1 : decode b_D_put 1 = .ok (.invokestatic 54, 3) := by decide +kernel
theorem d_D_put_4 : decode b_D_put 4 = .ok (.ifCond .eq 13, 3) := by decide +kernel
theorem d_D_put_7 : decode b_D_put 7 = .ok (.iload_n 2, 1) := by decide +kernel
theorem d_D_put_8 : decode b_D_put 8 = .ok (.ifCond .lt 9, 3) := by decide +kernel
theorem d_D_put_11 : decode b_D_put 11 = .ok (.iload_n 2, 1) := by decide +kernel
theorem d_D_put_12 : decode b_D_put 12 = .ok (.bipush 15, 2) := by decide +kernel
theorem d_D_put_14 : decode b_D_put 14 = .ok (.if_icmp .le 5, 3) := by decide +kernel
theorem d_D_put_17 : decode b_D_put 17 = .ok (.iconst (-1), 1) := by decide +kernel
theorem d_D_put_18 : decode b_D_put 18 = .ok (.ireturn, 1) := by decide +kernel
theorem d_D_put_19 : decode b_D_put 19 = .ok (.aload_n 0, 1) := by decide +kernel
theorem d_D_put_20 : decode b_D_put 20 = .ok (.getfield 16, 3) := by decide +kernel
theorem d_D_put_23 : decode b_D_put 23 = .ok (.iload_n 1, 1) := by decide +kernel
theorem d_D_put_24 : decode b_D_put 24 = .ok (.baload, 1) := by decide +kernel
theorem d_D_put_25 : decode b_D_put 25 = .ok (.ifCond .eq 6, 3) := by decide +kernel
theorem d_D_put_28 : decode b_D_put 28 = .ok (.bipush (-4), 2) := by decide +kernel
theorem d_D_put_30 : decode b_D_put 30 = .ok (.ireturn, 1) := by decide +kernel
theorem d_D_put_31 : decode b_D_put 31 = .ok (.aload_n 0, 1) := by decide +kernel
theorem d_D_put_32 : decode b_D_put 32 = .ok (.getfield 20, 3) := by decide +kernel
theorem d_D_put_35 : decode b_D_put 35 = .ok (.iload_n 1, 1) := by decide +kernel
theorem d_D_put_36 : decode b_D_put 36 = .ok (.baload, 1) := by decide +kernel
theorem d_D_put_37 : decode b_D_put 37 = .ok (.ifCond .ne 6, 3) := by decide +kernel
theorem d_D_put_40 : decode b_D_put 40 = .ok (.bipush (-2), 2) := by decide +kernel
theorem d_D_put_42 : decode b_D_put 42 = .ok (.ireturn, 1) := by decide +kernel
theorem d_D_put_43 : decode b_D_put 43 = .ok (.aload_n 0, 1) := by decide +kernel
theorem d_D_put_44 : decode b_D_put 44 = .ok (.getfield 13, 3) := by decide +kernel
theorem d_D_put_47 : decode b_D_put 47 = .ok (.iload_n 1, 1) := by decide +kernel
theorem d_D_put_48 : decode b_D_put 48 = .ok (.iaload, 1) := by decide +kernel
theorem d_D_put_49 : decode b_D_put 49 = .ok (.bipush 64, 2) := by decide +kernel
theorem d_D_put_51 : decode b_D_put 51 = .ok (.if_icmp .eq 12, 3) := by decide +kernel
theorem d_D_put_54 : decode b_D_put 54 = .ok (.aload_n 0, 1) := by decide +kernel
theorem d_D_put_55 : decode b_D_put 55 = .ok (.getfield 50, 3) := by decide +kernel
theorem d_D_put_58 : decode b_D_put 58 = .ok (.bipush 16, 2) := by decide +kernel
theorem d_D_put_60 : decode b_D_put 60 = .ok (.if_icmp .ne 6, 3) := by decide +kernel
theorem d_D_put_63 : decode b_D_put 63 = .ok (.bipush (-3), 2) := by decide +kernel
theorem d_D_put_65 : decode b_D_put 65 = .ok (.ireturn, 1) := by decide +kernel
theorem d_D_put_66 : decode b_D_put 66 = .ok (.aload_n 0, 1) := by decide +kernel
theorem d_D_put_67 : decode b_D_put 67 = .ok (.iload_n 1, 1) := by decide +kernel
theorem d_D_put_68 : decode b_D_put 68 = .ok (.aload_n 0, 1) := by decide +kernel
theorem d_D_put_69 : decode b_D_put 69 = .ok (.getfield 7, 3) := by decide +kernel
theorem d_D_put_72 : decode b_D_put 72 = .ok (.iload_n 1, 1) := by decide +kernel
theorem d_D_put_73 : decode b_D_put 73 = .ok (.iaload, 1) := by decide +kernel
theorem d_D_put_74 : decode b_D_put 74 = .ok (.iload_n 2, 1) := by decide +kernel
theorem d_D_put_75 : decode b_D_put 75 = .ok (.iload_n 3, 1) := by decide +kernel
theorem d_D_put_76 : decode b_D_put 76 = .ok (.invokevirtual 57, 3) := by decide +kernel
theorem d_D_put_79 : decode b_D_put 79 = .ok (.ifCond .ne 6, 3) := by decide +kernel
theorem d_D_put_82 : decode b_D_put 82 = .ok (.bipush (-4), 2) := by decide +kernel
theorem d_D_put_84 : decode b_D_put 84 = .ok (.ireturn, 1) := by decide +kernel
theorem d_D_put_85 : decode b_D_put 85 = .ok (.aload_n 0, 1) := by decide +kernel
theorem d_D_put_86 : decode b_D_put 86 = .ok (.iload_n 1, 1) := by decide +kernel
theorem d_D_put_87 : decode b_D_put 87 = .ok (.iconst 1, 1) := by decide +kernel
theorem d_D_put_88 : decode b_D_put 88 = .ok (.aload_n 0, 1) := by decide +kernel
theorem d_D_put_89 : decode b_D_put 89 = .ok (.getfield 13, 3) := by decide +kernel
theorem d_D_put_92 : decode b_D_put 92 = .ok (.iload_n 1, 1) := by decide +kernel
theorem d_D_put_93 : decode b_D_put 93 = .ok (.iaload, 1) := by decide +kernel
theorem d_D_put_94 : decode b_D_put 94 = .ok (.iconst 1, 1) := by decide +kernel
theorem d_D_put_95 : decode b_D_put 95 = .ok (.isub, 1) := by decide +kernel
theorem d_D_put_96 : decode b_D_put 96 = .ok (.invokevirtual 61, 3) := by decide +kernel
theorem d_D_put_99 : decode b_D_put 99 = .ok (.aload_n 0, 1) := by decide +kernel
theorem d_D_put_100 : decode b_D_put 100 = .ok (.getfield 13, 3) := by decide +kernel
theorem d_D_put_103 : decode b_D_put 103 = .ok (.iload_n 1, 1) := by decide +kernel
theorem d_D_put_104 : decode b_D_put 104 = .ok (.iaload, 1) := by decide +kernel
theorem d_D_put_105 : decode b_D_put 105 = .ok (.iconst 1, 1) := by decide +kernel
theorem d_D_put_106 : decode b_D_put 106 = .ok (.isub, 1) := by decide +kernel
theorem d_D_put_107 : decode b_D_put 107 = .ok (.ireturn, 1) := by decide +kernel
theorem d_D_get_0 : decode b_D_get 0 = .ok (.iload_n 1, 1) := by decide +kernel
theorem d_D_get_1 : decode b_D_get 1 = .ok (.invokestatic 54, 3) := by decide +kernel
theorem d_D_get_4 : decode b_D_get 4 = .ok (.ifCond .eq 13, 3) := by decide +kernel
theorem d_D_get_7 : decode b_D_get 7 = .ok (.iload_n 2, 1) := by decide +kernel
theorem d_D_get_8 : decode b_D_get 8 = .ok (.ifCond .lt 9, 3) := by decide +kernel
theorem d_D_get_11 : decode b_D_get 11 = .ok (.iload_n 2, 1) := by decide +kernel
theorem d_D_get_12 : decode b_D_get 12 = .ok (.bipush 15, 2) := by decide +kernel
theorem d_D_get_14 : decode b_D_get 14 = .ok (.if_icmp .le 5, 3) := by decide +kernel
theorem d_D_get_17 : decode b_D_get 17 = .ok (.iconst (-1), 1) := by decide +kernel
theorem d_D_get_18 : decode b_D_get 18 = .ok (.ireturn, 1) := by decide +kernel
theorem d_D_get_19 : decode b_D_get 19 = .ok (.iconst 0, 1) := by decide +kernel
theorem d_D_get_20 : decode b_D_get 20 = .ok (.istore_n 3, 1) := by decide +kernel
theorem d_D_get_21 : decode b_D_get 21 = .ok (.iconst 0, 1) := by decide +kernel
theorem d_D_get_22 : decode b_D_get 22 = .ok (.istore 4, 2) := by decide +kernel
theorem d_D_get_24 : decode b_D_get 24 = .ok (.iload 4, 2) := by decide +kernel
theorem d_D_get_26 : decode b_D_get 26 = .ok (.aload_n 0, 1) := by decide +kernel
theorem d_D_get_27 : decode b_D_get 27 = .ok (.getfield 13, 3) := by decide +kernel
theorem d_D_get_30 : decode b_D_get 30 = .ok (.iload_n 1, 1) := by decide +kernel
theorem d_D_get_31 : decode b_D_get 31 = .ok (.iaload, 1) := by decide +kernel
theorem d_D_get_32 : decode b_D_get 32 = .ok (.if_icmp .ge 42, 3) := by decide +kernel
theorem d_D_get_35 : decode b_D_get 35 = .ok (.aload_n 0, 1) := by decide +kernel
theorem d_D_get_36 : decode b_D_get 36 = .ok (.getfield 35, 3) := by decide +kernel
theorem d_D_get_39 : decode b_D_get 39 = .ok (.bipush 64, 2) := by decide +kernel
theorem d_D_get_41 : decode b_D_get 41 = .ok (.iload_n 1, 1) := by decide +kernel
theorem d_D_get_42 : decode b_D_get 42 = .ok (.imul, 1) := by decide +kernel
theorem d_D_get_43 : decode b_D_get 43 = .ok (.iload 4, 2) := by decide +kernel
theorem d_D_get_45 : decode b_D_get 45 = .ok (.iadd, 1) := by decide +kernel
theorem d_D_get_46 : decode b_D_get 46 = .ok (.iaload, 1) := by decide +kernel
theorem d_D_get_47 : decode b_D_get 47 = .ok (.iload_n 2, 1) := by decide +kernel
theorem d_D_get_48 : decode b_D_get 48 = .ok (.if_icmp .ne 18, 3) := by decide +kernel
theorem d_D_get_51 : decode b_D_get 51 = .ok (.aload_n 0, 1) := by decide +kernel
theorem d_D_get_52 : decode b_D_get 52 = .ok (.getfield 38, 3) := by decide +kernel
theorem d_D_get_55 : decode b_D_get 55 = .ok (.bipush 64, 2) := by decide +kernel
theorem d_D_get_57 : decode b_D_get 57 = .ok (.iload_n 1, 1) := by decide +kernel
theorem d_D_get_58 : decode b_D_get 58 = .ok (.imul, 1) := by decide +kernel
theorem d_D_get_59 : decode b_D_get 59 = .ok (.iload 4, 2) := by decide +kernel
theorem d_D_get_61 : decode b_D_get 61 = .ok (.iadd, 1) := by decide +kernel
theorem d_D_get_62 : decode b_D_get 62 = .ok (.iaload, 1) := by decide +kernel
theorem d_D_get_63 : decode b_D_get 63 = .ok (.goto 4, 3) := by decide +kernel
theorem d_D_get_66 : decode b_D_get 66 = .ok (.iload_n 3, 1) := by decide +kernel
theorem d_D_get_67 : decode b_D_get 67 = .ok (.istore_n 3, 1) := by decide +kernel
theorem d_D_get_68 : decode b_D_get 68 = .ok (.iinc 4 1, 3) := by decide +kernel
theorem d_D_get_71 : decode b_D_get 71 = .ok (.goto (-47), 3) := by decide +kernel
theorem d_D_get_74 : decode b_D_get 74 = .ok (.iload_n 3, 1) := by decide +kernel
theorem d_D_get_75 : decode b_D_get 75 = .ok (.ireturn, 1) := by decide +kernel
theorem d_D_shipIfThere_0 : decode b_D_shipIfThere 0 = .ok (.iload_n 2, 1) := by decide +kernel
theorem d_D_shipIfThere_1 : decode b_D_shipIfThere 1 = .ok (.ifCond .lt 20, 3) := by decide +kernel
theorem d_D_shipIfThere_4 : decode b_D_shipIfThere 4 = .ok (.iload_n 2, 1) := by decide +kernel
theorem d_D_shipIfThere_5 : decode b_D_shipIfThere 5 = .ok (.aload_n 0, 1) := by decide +kernel
theorem d_D_shipIfThere_6 : decode b_D_shipIfThere 6 = .ok (.getfield 13, 3) := by decide +kernel
theorem d_D_shipIfThere_9 : decode b_D_shipIfThere 9 = .ok (.iload_n 1, 1) := by decide +kernel
theorem d_D_shipIfThere_10 : decode b_D_shipIfThere 10 = .ok (.iaload, 1) := by decide +kernel
theorem d_D_shipIfThere_11 : decode b_D_shipIfThere 11 = .ok (.if_icmp .ge 10, 3) := by decide +kernel
theorem d_D_shipIfThere_14 : decode b_D_shipIfThere 14 = .ok (.aload_n 0, 1) := by decide +kernel
theorem d_D_shipIfThere_15 : decode b_D_shipIfThere 15 = .ok (.iload_n 1, 1) := by decide +kernel
theorem d_D_shipIfThere_16 : decode b_D_shipIfThere 16 = .ok (.iconst 1, 1) := by decide +kernel
theorem d_D_shipIfThere_17 : decode b_D_shipIfThere 17 = .ok (.iload_n 2, 1) := by decide +kernel
theorem d_D_shipIfThere_18 : decode b_D_shipIfThere 18 = .ok (.invokevirtual 61, 3) := by decide +kernel
theorem d_D_shipIfThere_21 : decode b_D_shipIfThere 21 = .ok (.return_, 1) := by decide +kernel
theorem d_D_drop_0 : decode b_D_drop 0 = .ok (.iload_n 1, 1) := by decide +kernel
theorem d_D_drop_1 : decode b_D_drop 1 = .ok (.ifCond .lt 11, 3) := by decide +kernel
theorem d_D_drop_4 : decode b_D_drop 4 = .ok (.iload_n 1, 1) := by decide +kernel
theorem d_D_drop_5 : decode b_D_drop 5 = .ok (.aload_n 0, 1) := by decide +kernel
theorem d_D_drop_6 : decode b_D_drop 6 = .ok (.getfield 50, 3) := by decide +kernel
theorem d_D_drop_9 : decode b_D_drop 9 = .ok (.if_icmp .lt 5, 3) := by decide +kernel
theorem d_D_drop_12 : decode b_D_drop 12 = .ok (.iconst 0, 1) := by decide +kernel
theorem d_D_drop_13 : decode b_D_drop 13 = .ok (.ireturn, 1) := by decide +kernel
theorem d_D_drop_14 : decode b_D_drop 14 = .ok (.aload_n 0, 1) := by decide +kernel
theorem d_D_drop_15 : decode b_D_drop 15 = .ok (.iload_n 1, 1) := by decide +kernel
theorem d_D_drop_16 : decode b_D_drop 16 = .ok (.invokevirtual 65, 3) := by decide +kernel
theorem d_D_drop_19 : decode b_D_drop 19 = .ok (.iconst 1, 1) := by decide +kernel
theorem d_D_drop_20 : decode b_D_drop 20 = .ok (.ireturn, 1) := by decide +kernel
theorem d_D_fuse_0 : decode b_D_fuse 0 = .ok (.iload_n 1, 1) := by decide +kernel
theorem d_D_fuse_1 : decode b_D_fuse 1 = .ok (.invokestatic 54, 3) := by decide +kernel
theorem d_D_fuse_4 : decode b_D_fuse 4 = .ok (.ifCond .ne 5, 3) := by decide +kernel
theorem d_D_fuse_7 : decode b_D_fuse 7 = .ok (.iconst (-1), 1) := by decide +kernel
theorem d_D_fuse_8 : decode b_D_fuse 8 = .ok (.ireturn, 1) := by decide +kernel
theorem d_D_fuse_9 : decode b_D_fuse 9 = .ok (.aload_n 0, 1) := by decide +kernel
theorem d_D_fuse_10 : decode b_D_fuse 10 = .ok (.getfield 26, 3) := by decide +kernel
theorem d_D_fuse_13 : decode b_D_fuse 13 = .ok (.iload_n 1, 1) := by decide +kernel
theorem d_D_fuse_14 : decode b_D_fuse 14 = .ok (.iload_n 2, 1) := by decide +kernel
theorem d_D_fuse_15 : decode b_D_fuse 15 = .ok (.ifCond .ge 7, 3) := by decide +kernel
theorem d_D_fuse_18 : decode b_D_fuse 18 = .ok (.iconst (-1), 1) := by decide +kernel
theorem d_D_fuse_19 : decode b_D_fuse 19 = .ok (.goto 4, 3) := by decide +kernel
theorem d_D_fuse_22 : decode b_D_fuse 22 = .ok (.iload_n 2, 1) := by decide +kernel
theorem d_D_fuse_23 : decode b_D_fuse 23 = .ok (.iastore, 1) := by decide +kernel
theorem d_D_fuse_24 : decode b_D_fuse 24 = .ok (.iconst 1, 1) := by decide +kernel
theorem d_D_fuse_25 : decode b_D_fuse 25 = .ok (.ireturn, 1) := by decide +kernel
theorem d_D_crash_0 : decode b_D_crash 0 = .ok (.iload_n 1, 1) := by decide +kernel
theorem d_D_crash_1 : decode b_D_crash 1 = .ok (.invokestatic 54, 3) := by decide +kernel
theorem d_D_crash_4 : decode b_D_crash 4 = .ok (.ifCond .ne 5, 3) := by decide +kernel
theorem d_D_crash_7 : decode b_D_crash 7 = .ok (.iconst (-1), 1) := by decide +kernel
theorem d_D_crash_8 : decode b_D_crash 8 = .ok (.ireturn, 1) := by decide +kernel
theorem d_D_crash_9 : decode b_D_crash 9 = .ok (.aload_n 0, 1) := by decide +kernel
theorem d_D_crash_10 : decode b_D_crash 10 = .ok (.getfield 16, 3) := by decide +kernel
theorem d_D_crash_13 : decode b_D_crash 13 = .ok (.iload_n 1, 1) := by decide +kernel
theorem d_D_crash_14 : decode b_D_crash 14 = .ok (.baload, 1) := by decide +kernel
theorem d_D_crash_15 : decode b_D_crash 15 = .ok (.ifCond .eq 7, 3) := by decide +kernel
theorem d_D_crash_18 : decode b_D_crash 18 = .ok (.iconst 0, 1) := by decide +kernel
theorem d_D_crash_19 : decode b_D_crash 19 = .ok (.goto 4, 3) := by decide +kernel
theorem d_D_crash_22 : decode b_D_crash 22 = .ok (.iconst 1, 1) := by decide +kernel
theorem d_D_crash_23 : decode b_D_crash 23 = .ok (.istore_n 2, 1) := by decide +kernel
theorem d_D_crash_24 : decode b_D_crash 24 = .ok (.aload_n 0, 1) := by decide +kernel
theorem d_D_crash_25 : decode b_D_crash 25 = .ok (.getfield 16, 3) := by decide +kernel
theorem d_D_crash_28 : decode b_D_crash 28 = .ok (.iload_n 1, 1) := by decide +kernel
theorem d_D_crash_29 : decode b_D_crash 29 = .ok (.iconst 1, 1) := by decide +kernel
theorem d_D_crash_30 : decode b_D_crash 30 = .ok (.bastore, 1) := by decide +kernel
theorem d_D_crash_31 : decode b_D_crash 31 = .ok (.aload_n 0, 1) := by decide +kernel
theorem d_D_crash_32 : decode b_D_crash 32 = .ok (.getfield 20, 3) := by decide +kernel
theorem d_D_crash_35 : decode b_D_crash 35 = .ok (.iload_n 1, 1) := by decide +kernel
theorem d_D_crash_36 : decode b_D_crash 36 = .ok (.iconst 0, 1) := by decide +kernel
theorem d_D_crash_37 : decode b_D_crash 37 = .ok (.bastore, 1) := by decide +kernel
theorem d_D_crash_38 : decode b_D_crash 38 = .ok (.aload_n 0, 1) := by decide +kernel
theorem d_D_crash_39 : decode b_D_crash 39 = .ok (.getfield 26, 3) := by decide +kernel
theorem d_D_crash_42 : decode b_D_crash 42 = .ok (.iload_n 1, 1) := by decide +kernel
theorem d_D_crash_43 : decode b_D_crash 43 = .ok (.iconst (-1), 1) := by decide +kernel
theorem d_D_crash_44 : decode b_D_crash 44 = .ok (.iastore, 1) := by decide +kernel
theorem d_D_crash_45 : decode b_D_crash 45 = .ok (.iload_n 2, 1) := by decide +kernel
theorem d_D_crash_46 : decode b_D_crash 46 = .ok (.ireturn, 1) := by decide +kernel
theorem d_D_recover_0 : decode b_D_recover 0 = .ok (.iload_n 1, 1) := by decide +kernel
theorem d_D_recover_1 : decode b_D_recover 1 = .ok (.invokestatic 54, 3) := by decide +kernel
theorem d_D_recover_4 : decode b_D_recover 4 = .ok (.ifCond .ne 5, 3) := by decide +kernel
theorem d_D_recover_7 : decode b_D_recover 7 = .ok (.iconst (-1), 1) := by decide +kernel
theorem d_D_recover_8 : decode b_D_recover 8 = .ok (.ireturn, 1) := by decide +kernel
theorem d_D_recover_9 : decode b_D_recover 9 = .ok (.aload_n 0, 1) := by decide +kernel
theorem d_D_recover_10 : decode b_D_recover 10 = .ok (.getfield 16, 3) := by decide +kernel
theorem d_D_recover_13 : decode b_D_recover 13 = .ok (.iload_n 1, 1) := by decide +kernel
theorem d_D_recover_14 : decode b_D_recover 14 = .ok (.baload, 1) := by decide +kernel
theorem d_D_recover_15 : decode b_D_recover 15 = .ok (.ifCond .ne 6, 3) := by decide +kernel
theorem d_D_recover_18 : decode b_D_recover 18 = .ok (.bipush (-2), 2) := by decide +kernel
theorem d_D_recover_20 : decode b_D_recover 20 = .ok (.ireturn, 1) := by decide +kernel
theorem d_D_recover_21 : decode b_D_recover 21 = .ok (.aload_n 0, 1) := by decide +kernel
theorem d_D_recover_22 : decode b_D_recover 22 = .ok (.getfield 16, 3) := by decide +kernel
theorem d_D_recover_25 : decode b_D_recover 25 = .ok (.iload_n 1, 1) := by decide +kernel
theorem d_D_recover_26 : decode b_D_recover 26 = .ok (.iconst 0, 1) := by decide +kernel
theorem d_D_recover_27 : decode b_D_recover 27 = .ok (.bastore, 1) := by decide +kernel
theorem d_D_recover_28 : decode b_D_recover 28 = .ok (.aload_n 0, 1) := by decide +kernel
theorem d_D_recover_29 : decode b_D_recover 29 = .ok (.getfield 20, 3) := by decide +kernel
theorem d_D_recover_32 : decode b_D_recover 32 = .ok (.iload_n 1, 1) := by decide +kernel
theorem d_D_recover_33 : decode b_D_recover 33 = .ok (.iconst 0, 1) := by decide +kernel
theorem d_D_recover_34 : decode b_D_recover 34 = .ok (.bastore, 1) := by decide +kernel
theorem d_D_recover_35 : decode b_D_recover 35 = .ok (.aload_n 0, 1) := by decide +kernel
theorem d_D_recover_36 : decode b_D_recover 36 = .ok (.getfield 26, 3) := by decide +kernel
theorem d_D_recover_39 : decode b_D_recover 39 = .ok (.iload_n 1, 1) := by decide +kernel
theorem d_D_recover_40 : decode b_D_recover 40 = .ok (.iconst (-1), 1) := by decide +kernel
theorem d_D_recover_41 : decode b_D_recover 41 = .ok (.iastore, 1) := by decide +kernel
theorem d_D_recover_42 : decode b_D_recover 42 = .ok (.aload_n 0, 1) := by decide +kernel
theorem d_D_recover_43 : decode b_D_recover 43 = .ok (.getfield 13, 3) := by decide +kernel
theorem d_D_recover_46 : decode b_D_recover 46 = .ok (.iload_n 1, 1) := by decide +kernel
theorem d_D_recover_47 : decode b_D_recover 47 = .ok (.iaload, 1) := by decide +kernel
theorem d_D_recover_48 : decode b_D_recover 48 = .ok (.ireturn, 1) := by decide +kernel
theorem d_D_promote_0 : decode b_D_promote 0 = .ok (.iload_n 1, 1) := by decide +kernel
theorem d_D_promote_1 : decode b_D_promote 1 = .ok (.invokestatic 54, 3) := by decide +kernel
theorem d_D_promote_4 : decode b_D_promote 4 = .ok (.ifCond .ne 5, 3) := by decide +kernel
theorem d_D_promote_7 : decode b_D_promote 7 = .ok (.iconst (-1), 1) := by decide +kernel
theorem d_D_promote_8 : decode b_D_promote 8 = .ok (.ireturn, 1) := by decide +kernel
theorem d_D_promote_9 : decode b_D_promote 9 = .ok (.aload_n 0, 1) := by decide +kernel
theorem d_D_promote_10 : decode b_D_promote 10 = .ok (.getfield 16, 3) := by decide +kernel
theorem d_D_promote_13 : decode b_D_promote 13 = .ok (.iload_n 1, 1) := by decide +kernel
theorem d_D_promote_14 : decode b_D_promote 14 = .ok (.baload, 1) := by decide +kernel
theorem d_D_promote_15 : decode b_D_promote 15 = .ok (.ifCond .eq 6, 3) := by decide +kernel
theorem d_D_promote_18 : decode b_D_promote 18 = .ok (.bipush (-4), 2) := by decide +kernel
theorem d_D_promote_20 : decode b_D_promote 20 = .ok (.ireturn, 1) := by decide +kernel
theorem d_D_promote_21 : decode b_D_promote 21 = .ok (.aload_n 0, 1) := by decide +kernel
theorem d_D_promote_22 : decode b_D_promote 22 = .ok (.getfield 7, 3) := by decide +kernel
theorem d_D_promote_25 : decode b_D_promote 25 = .ok (.iload_n 1, 1) := by decide +kernel
theorem d_D_promote_26 : decode b_D_promote 26 = .ok (.iaload, 1) := by decide +kernel
theorem d_D_promote_27 : decode b_D_promote 27 = .ok (.iconst 2, 1) := by decide +kernel
theorem d_D_promote_28 : decode b_D_promote 28 = .ok (.irem, 1) := by decide +kernel
theorem d_D_promote_29 : decode b_D_promote 29 = .ok (.iload_n 1, 1) := by decide +kernel
theorem d_D_promote_30 : decode b_D_promote 30 = .ok (.if_icmp .ne 14, 3) := by decide +kernel
theorem d_D_promote_33 : decode b_D_promote 33 = .ok (.aload_n 0, 1) := by decide +kernel
theorem d_D_promote_34 : decode b_D_promote 34 = .ok (.getfield 7, 3) := by decide +kernel
theorem d_D_promote_37 : decode b_D_promote 37 = .ok (.iload_n 1, 1) := by decide +kernel
theorem d_D_promote_38 : decode b_D_promote 38 = .ok (.iaload, 1) := by decide +kernel
theorem d_D_promote_39 : decode b_D_promote 39 = .ok (.iconst 2, 1) := by decide +kernel
theorem d_D_promote_40 : decode b_D_promote 40 = .ok (.iadd, 1) := by decide +kernel
theorem d_D_promote_41 : decode b_D_promote 41 = .ok (.goto 11, 3) := by decide +kernel
theorem d_D_promote_44 : decode b_D_promote 44 = .ok (.aload_n 0, 1) := by decide +kernel
theorem d_D_promote_45 : decode b_D_promote 45 = .ok (.getfield 7, 3) := by decide +kernel
theorem d_D_promote_48 : decode b_D_promote 48 = .ok (.iload_n 1, 1) := by decide +kernel
theorem d_D_promote_49 : decode b_D_promote 49 = .ok (.iaload, 1) := by decide +kernel
theorem d_D_promote_50 : decode b_D_promote 50 = .ok (.iconst 1, 1) := by decide +kernel
theorem d_D_promote_51 : decode b_D_promote 51 = .ok (.iadd, 1) := by decide +kernel
theorem d_D_promote_52 : decode b_D_promote 52 = .ok (.istore_n 2, 1) := by decide +kernel
theorem d_D_promote_53 : decode b_D_promote 53 = .ok (.aload_n 0, 1) := by decide +kernel
theorem d_D_promote_54 : decode b_D_promote 54 = .ok (.iload_n 1, 1) := by decide +kernel
theorem d_D_promote_55 : decode b_D_promote 55 = .ok (.iload_n 2, 1) := by decide +kernel
theorem d_D_promote_56 : decode b_D_promote 56 = .ok (.invokevirtual 69, 3) := by decide +kernel
theorem d_D_promote_59 : decode b_D_promote 59 = .ok (.ifCond .ne 6, 3) := by decide +kernel
theorem d_D_promote_62 : decode b_D_promote 62 = .ok (.bipush (-4), 2) := by decide +kernel
theorem d_D_promote_64 : decode b_D_promote 64 = .ok (.ireturn, 1) := by decide +kernel
theorem d_D_promote_65 : decode b_D_promote 65 = .ok (.aload_n 0, 1) := by decide +kernel
theorem d_D_promote_66 : decode b_D_promote 66 = .ok (.getfield 20, 3) := by decide +kernel
theorem d_D_promote_69 : decode b_D_promote 69 = .ok (.iload_n 1, 1) := by decide +kernel
theorem d_D_promote_70 : decode b_D_promote 70 = .ok (.iconst 1, 1) := by decide +kernel
theorem d_D_promote_71 : decode b_D_promote 71 = .ok (.bastore, 1) := by decide +kernel
theorem d_D_promote_72 : decode b_D_promote 72 = .ok (.aload_n 0, 1) := by decide +kernel
theorem d_D_promote_73 : decode b_D_promote 73 = .ok (.getfield 23, 3) := by decide +kernel
theorem d_D_promote_76 : decode b_D_promote 76 = .ok (.iload_n 1, 1) := by decide +kernel
theorem d_D_promote_77 : decode b_D_promote 77 = .ok (.iconst (-1), 1) := by decide +kernel
theorem d_D_promote_78 : decode b_D_promote 78 = .ok (.iastore, 1) := by decide +kernel
theorem d_D_promote_79 : decode b_D_promote 79 = .ok (.iload_n 2, 1) := by decide +kernel
theorem d_D_promote_80 : decode b_D_promote 80 = .ok (.ireturn, 1) := by decide +kernel
theorem d_D_rejoin_0 : decode b_D_rejoin 0 = .ok (.iload_n 1, 1) := by decide +kernel
theorem d_D_rejoin_1 : decode b_D_rejoin 1 = .ok (.invokestatic 54, 3) := by decide +kernel
theorem d_D_rejoin_4 : decode b_D_rejoin 4 = .ok (.ifCond .ne 5, 3) := by decide +kernel
theorem d_D_rejoin_7 : decode b_D_rejoin 7 = .ok (.iconst (-1), 1) := by decide +kernel
theorem d_D_rejoin_8 : decode b_D_rejoin 8 = .ok (.ireturn, 1) := by decide +kernel
theorem d_D_rejoin_9 : decode b_D_rejoin 9 = .ok (.aload_n 0, 1) := by decide +kernel
theorem d_D_rejoin_10 : decode b_D_rejoin 10 = .ok (.getfield 16, 3) := by decide +kernel
theorem d_D_rejoin_13 : decode b_D_rejoin 13 = .ok (.iload_n 1, 1) := by decide +kernel
theorem d_D_rejoin_14 : decode b_D_rejoin 14 = .ok (.baload, 1) := by decide +kernel
theorem d_D_rejoin_15 : decode b_D_rejoin 15 = .ok (.ifCond .eq 6, 3) := by decide +kernel
theorem d_D_rejoin_18 : decode b_D_rejoin 18 = .ok (.bipush (-4), 2) := by decide +kernel
theorem d_D_rejoin_20 : decode b_D_rejoin 20 = .ok (.ireturn, 1) := by decide +kernel
theorem d_D_rejoin_21 : decode b_D_rejoin 21 = .ok (.aload_n 0, 1) := by decide +kernel
theorem d_D_rejoin_22 : decode b_D_rejoin 22 = .ok (.getfield 20, 3) := by decide +kernel
theorem d_D_rejoin_25 : decode b_D_rejoin 25 = .ok (.iload_n 1, 1) := by decide +kernel
theorem d_D_rejoin_26 : decode b_D_rejoin 26 = .ok (.baload, 1) := by decide +kernel
theorem d_D_rejoin_27 : decode b_D_rejoin 27 = .ok (.ifCond .eq 6, 3) := by decide +kernel
theorem d_D_rejoin_30 : decode b_D_rejoin 30 = .ok (.bipush (-2), 2) := by decide +kernel
theorem d_D_rejoin_32 : decode b_D_rejoin 32 = .ok (.ireturn, 1) := by decide +kernel
theorem d_D_rejoin_33 : decode b_D_rejoin 33 = .ok (.aload_n 0, 1) := by decide +kernel
theorem d_D_rejoin_34 : decode b_D_rejoin 34 = .ok (.getfield 50, 3) := by decide +kernel
theorem d_D_rejoin_37 : decode b_D_rejoin 37 = .ok (.bipush 16, 2) := by decide +kernel
theorem d_D_rejoin_39 : decode b_D_rejoin 39 = .ok (.if_icmp .ne 6, 3) := by decide +kernel
theorem d_D_rejoin_42 : decode b_D_rejoin 42 = .ok (.bipush (-3), 2) := by decide +kernel
theorem d_D_rejoin_44 : decode b_D_rejoin 44 = .ok (.ireturn, 1) := by decide +kernel
theorem d_D_rejoin_45 : decode b_D_rejoin 45 = .ok (.aload_n 0, 1) := by decide +kernel
theorem d_D_rejoin_46 : decode b_D_rejoin 46 = .ok (.iload_n 1, 1) := by decide +kernel
theorem d_D_rejoin_47 : decode b_D_rejoin 47 = .ok (.iconst 3, 1) := by decide +kernel
theorem d_D_rejoin_48 : decode b_D_rejoin 48 = .ok (.aload_n 0, 1) := by decide +kernel
theorem d_D_rejoin_49 : decode b_D_rejoin 49 = .ok (.getfield 13, 3) := by decide +kernel
theorem d_D_rejoin_52 : decode b_D_rejoin 52 = .ok (.iload_n 1, 1) := by decide +kernel
theorem d_D_rejoin_53 : decode b_D_rejoin 53 = .ok (.iaload, 1) := by decide +kernel
theorem d_D_rejoin_54 : decode b_D_rejoin 54 = .ok (.invokevirtual 61, 3) := by decide +kernel
theorem d_D_rejoin_57 : decode b_D_rejoin 57 = .ok (.iconst 1, 1) := by decide +kernel
theorem d_D_rejoin_58 : decode b_D_rejoin 58 = .ok (.ireturn, 1) := by decide +kernel
theorem d_D_told_0 : decode b_D_told 0 = .ok (.iload_n 1, 1) := by decide +kernel
theorem d_D_told_1 : decode b_D_told 1 = .ok (.invokestatic 54, 3) := by decide +kernel
theorem d_D_told_4 : decode b_D_told 4 = .ok (.ifCond .ne 5, 3) := by decide +kernel
theorem d_D_told_7 : decode b_D_told 7 = .ok (.iconst (-1), 1) := by decide +kernel
theorem d_D_told_8 : decode b_D_told 8 = .ok (.ireturn, 1) := by decide +kernel
theorem d_D_told_9 : decode b_D_told 9 = .ok (.iload_n 2, 1) := by decide +kernel
theorem d_D_told_10 : decode b_D_told 10 = .ok (.tableswitch 120 0 6 #[42, 49, 56, 71, 86, 106, 113], 42) := by decide +kernel
theorem d_D_told_52 : decode b_D_told 52 = .ok (.aload_n 0, 1) := by decide +kernel
theorem d_D_told_53 : decode b_D_told 53 = .ok (.getfield 7, 3) := by decide +kernel
theorem d_D_told_56 : decode b_D_told 56 = .ok (.iload_n 1, 1) := by decide +kernel
theorem d_D_told_57 : decode b_D_told 57 = .ok (.iaload, 1) := by decide +kernel
theorem d_D_told_58 : decode b_D_told 58 = .ok (.ireturn, 1) := by decide +kernel
theorem d_D_told_59 : decode b_D_told 59 = .ok (.aload_n 0, 1) := by decide +kernel
theorem d_D_told_60 : decode b_D_told 60 = .ok (.getfield 13, 3) := by decide +kernel
theorem d_D_told_63 : decode b_D_told 63 = .ok (.iload_n 1, 1) := by decide +kernel
theorem d_D_told_64 : decode b_D_told 64 = .ok (.iaload, 1) := by decide +kernel
theorem d_D_told_65 : decode b_D_told 65 = .ok (.ireturn, 1) := by decide +kernel
theorem d_D_told_66 : decode b_D_told 66 = .ok (.aload_n 0, 1) := by decide +kernel
theorem d_D_told_67 : decode b_D_told 67 = .ok (.getfield 16, 3) := by decide +kernel
theorem d_D_told_70 : decode b_D_told 70 = .ok (.iload_n 1, 1) := by decide +kernel
theorem d_D_told_71 : decode b_D_told 71 = .ok (.baload, 1) := by decide +kernel
theorem d_D_told_72 : decode b_D_told 72 = .ok (.ifCond .eq 7, 3) := by decide +kernel
theorem d_D_told_75 : decode b_D_told 75 = .ok (.iconst 0, 1) := by decide +kernel
theorem d_D_told_76 : decode b_D_told 76 = .ok (.goto 4, 3) := by decide +kernel
theorem d_D_told_79 : decode b_D_told 79 = .ok (.iconst 1, 1) := by decide +kernel
theorem d_D_told_80 : decode b_D_told 80 = .ok (.ireturn, 1) := by decide +kernel
theorem d_D_told_81 : decode b_D_told 81 = .ok (.aload_n 0, 1) := by decide +kernel
theorem d_D_told_82 : decode b_D_told 82 = .ok (.getfield 20, 3) := by decide +kernel
theorem d_D_told_85 : decode b_D_told 85 = .ok (.iload_n 1, 1) := by decide +kernel
theorem d_D_told_86 : decode b_D_told 86 = .ok (.baload, 1) := by decide +kernel
theorem d_D_told_87 : decode b_D_told 87 = .ok (.ifCond .eq 7, 3) := by decide +kernel
theorem d_D_told_90 : decode b_D_told 90 = .ok (.iconst 1, 1) := by decide +kernel
theorem d_D_told_91 : decode b_D_told 91 = .ok (.goto 4, 3) := by decide +kernel
theorem d_D_told_94 : decode b_D_told 94 = .ok (.iconst 0, 1) := by decide +kernel
theorem d_D_told_95 : decode b_D_told 95 = .ok (.ireturn, 1) := by decide +kernel
theorem d_D_told_96 : decode b_D_told 96 = .ok (.aload_n 0, 1) := by decide +kernel
theorem d_D_told_97 : decode b_D_told 97 = .ok (.getfield 20, 3) := by decide +kernel
theorem d_D_told_100 : decode b_D_told 100 = .ok (.iload_n 1, 1) := by decide +kernel
theorem d_D_told_101 : decode b_D_told 101 = .ok (.baload, 1) := by decide +kernel
theorem d_D_told_102 : decode b_D_told 102 = .ok (.ifCond .eq 12, 3) := by decide +kernel
theorem d_D_told_105 : decode b_D_told 105 = .ok (.aload_n 0, 1) := by decide +kernel
theorem d_D_told_106 : decode b_D_told 106 = .ok (.getfield 23, 3) := by decide +kernel
theorem d_D_told_109 : decode b_D_told 109 = .ok (.iload_n 1, 1) := by decide +kernel
theorem d_D_told_110 : decode b_D_told 110 = .ok (.iaload, 1) := by decide +kernel
theorem d_D_told_111 : decode b_D_told 111 = .ok (.goto 4, 3) := by decide +kernel
theorem d_D_told_114 : decode b_D_told 114 = .ok (.iconst (-1), 1) := by decide +kernel
theorem d_D_told_115 : decode b_D_told 115 = .ok (.ireturn, 1) := by decide +kernel
theorem d_D_told_116 : decode b_D_told 116 = .ok (.aload_n 0, 1) := by decide +kernel
theorem d_D_told_117 : decode b_D_told 117 = .ok (.getfield 26, 3) := by decide +kernel
theorem d_D_told_120 : decode b_D_told 120 = .ok (.iload_n 1, 1) := by decide +kernel
theorem d_D_told_121 : decode b_D_told 121 = .ok (.iaload, 1) := by decide +kernel
theorem d_D_told_122 : decode b_D_told 122 = .ok (.ireturn, 1) := by decide +kernel
theorem d_D_told_123 : decode b_D_told 123 = .ok (.aload_n 0, 1) := by decide +kernel
theorem d_D_told_124 : decode b_D_told 124 = .ok (.getfield 29, 3) := by decide +kernel
theorem d_D_told_127 : decode b_D_told 127 = .ok (.iload_n 1, 1) := by decide +kernel
theorem d_D_told_128 : decode b_D_told 128 = .ok (.iaload, 1) := by decide +kernel
theorem d_D_told_129 : decode b_D_told 129 = .ok (.ireturn, 1) := by decide +kernel
theorem d_D_told_130 : decode b_D_told 130 = .ok (.iconst (-1), 1) := by decide +kernel
theorem d_D_told_131 : decode b_D_told 131 = .ok (.ireturn, 1) := by decide +kernel
theorem d_D_entry_0 : decode b_D_entry 0 = .ok (.iload_n 1, 1) := by decide +kernel
theorem d_D_entry_1 : decode b_D_entry 1 = .ok (.invokestatic 54, 3) := by decide +kernel
theorem d_D_entry_4 : decode b_D_entry 4 = .ok (.ifCond .eq 17, 3) := by decide +kernel
theorem d_D_entry_7 : decode b_D_entry 7 = .ok (.iload_n 2, 1) := by decide +kernel
theorem d_D_entry_8 : decode b_D_entry 8 = .ok (.ifCond .lt 13, 3) := by decide +kernel
theorem d_D_entry_11 : decode b_D_entry 11 = .ok (.iload_n 2, 1) := by decide +kernel
theorem d_D_entry_12 : decode b_D_entry 12 = .ok (.aload_n 0, 1) := by decide +kernel
theorem d_D_entry_13 : decode b_D_entry 13 = .ok (.getfield 13, 3) := by decide +kernel
theorem d_D_entry_16 : decode b_D_entry 16 = .ok (.iload_n 1, 1) := by decide +kernel
theorem d_D_entry_17 : decode b_D_entry 17 = .ok (.iaload, 1) := by decide +kernel
theorem d_D_entry_18 : decode b_D_entry 18 = .ok (.if_icmp .lt 5, 3) := by decide +kernel
theorem d_D_entry_21 : decode b_D_entry 21 = .ok (.iconst 0, 1) := by decide +kernel
theorem d_D_entry_22 : decode b_D_entry 22 = .ok (.ireturn, 1) := by decide +kernel
theorem d_D_entry_23 : decode b_D_entry 23 = .ok (.bipush 64, 2) := by decide +kernel
theorem d_D_entry_25 : decode b_D_entry 25 = .ok (.iload_n 1, 1) := by decide +kernel
theorem d_D_entry_26 : decode b_D_entry 26 = .ok (.imul, 1) := by decide +kernel
theorem d_D_entry_27 : decode b_D_entry 27 = .ok (.iload_n 2, 1) := by decide +kernel
theorem d_D_entry_28 : decode b_D_entry 28 = .ok (.iadd, 1) := by decide +kernel
theorem d_D_entry_29 : decode b_D_entry 29 = .ok (.istore 4, 2) := by decide +kernel
theorem d_D_entry_31 : decode b_D_entry 31 = .ok (.iload_n 3, 1) := by decide +kernel
theorem d_D_entry_32 : decode b_D_entry 32 = .ok (.ifCond .ne 13, 3) := by decide +kernel
theorem d_D_entry_35 : decode b_D_entry 35 = .ok (.aload_n 0, 1) := by decide +kernel
theorem d_D_entry_36 : decode b_D_entry 36 = .ok (.getfield 32, 3) := by decide +kernel
theorem d_D_entry_39 : decode b_D_entry 39 = .ok (.iload 4, 2) := by decide +kernel
theorem d_D_entry_41 : decode b_D_entry 41 = .ok (.iaload, 1) := by decide +kernel
theorem d_D_entry_42 : decode b_D_entry 42 = .ok (.goto 34, 3) := by decide +kernel
theorem d_D_entry_45 : decode b_D_entry 45 = .ok (.iload_n 3, 1) := by decide +kernel
theorem d_D_entry_46 : decode b_D_entry 46 = .ok (.iconst 1, 1) := by decide +kernel
theorem d_D_entry_47 : decode b_D_entry 47 = .ok (.if_icmp .ne 13, 3) := by decide +kernel
theorem d_D_entry_50 : decode b_D_entry 50 = .ok (.aload_n 0, 1) := by decide +kernel
theorem d_D_entry_51 : decode b_D_entry 51 = .ok (.getfield 35, 3) := by decide +kernel
theorem d_D_entry_54 : decode b_D_entry 54 = .ok (.iload 4, 2) := by decide +kernel
theorem d_D_entry_56 : decode b_D_entry 56 = .ok (.iaload, 1) := by decide +kernel
theorem d_D_entry_57 : decode b_D_entry 57 = .ok (.goto 19, 3) := by decide +kernel
theorem d_D_entry_60 : decode b_D_entry 60 = .ok (.iload_n 3, 1) := by decide +kernel
theorem d_D_entry_61 : decode b_D_entry 61 = .ok (.iconst 2, 1) := by decide +kernel
theorem d_D_entry_62 : decode b_D_entry 62 = .ok (.if_icmp .ne 13, 3) := by decide +kernel
theorem d_D_entry_65 : decode b_D_entry 65 = .ok (.aload_n 0, 1) := by decide +kernel
theorem d_D_entry_66 : decode b_D_entry 66 = .ok (.getfield 38, 3) := by decide +kernel
theorem d_D_entry_69 : decode b_D_entry 69 = .ok (.iload 4, 2) := by decide +kernel
theorem d_D_entry_71 : decode b_D_entry 71 = .ok (.iaload, 1) := by decide +kernel
theorem d_D_entry_72 : decode b_D_entry 72 = .ok (.goto 4, 3) := by decide +kernel
theorem d_D_entry_75 : decode b_D_entry 75 = .ok (.iconst 0, 1) := by decide +kernel
theorem d_D_entry_76 : decode b_D_entry 76 = .ok (.ireturn, 1) := by decide +kernel
theorem d_D_message_0 : decode b_D_message 0 = .ok (.iload_n 1, 1) := by decide +kernel
theorem d_D_message_1 : decode b_D_message 1 = .ok (.ifCond .lt 20, 3) := by decide +kernel
theorem d_D_message_4 : decode b_D_message 4 = .ok (.iload_n 1, 1) := by decide +kernel
theorem d_D_message_5 : decode b_D_message 5 = .ok (.aload_n 0, 1) := by decide +kernel
theorem d_D_message_6 : decode b_D_message 6 = .ok (.getfield 50, 3) := by decide +kernel
theorem d_D_message_9 : decode b_D_message 9 = .ok (.if_icmp .ge 12, 3) := by decide +kernel
theorem d_D_message_12 : decode b_D_message 12 = .ok (.iload_n 2, 1) := by decide +kernel
theorem d_D_message_13 : decode b_D_message 13 = .ok (.ifCond .lt 8, 3) := by decide +kernel
theorem d_D_message_16 : decode b_D_message 16 = .ok (.iload_n 2, 1) := by decide +kernel
theorem d_D_message_17 : decode b_D_message 17 = .ok (.iconst 3, 1) := by decide +kernel
theorem d_D_message_18 : decode b_D_message 18 = .ok (.if_icmp .le 5, 3) := by decide +kernel
theorem d_D_message_21 : decode b_D_message 21 = .ok (.iconst (-1), 1) := by decide +kernel
theorem d_D_message_22 : decode b_D_message 22 = .ok (.ireturn, 1) := by decide +kernel
theorem d_D_message_23 : decode b_D_message 23 = .ok (.aload_n 0, 1) := by decide +kernel
theorem d_D_message_24 : decode b_D_message 24 = .ok (.getfield 41, 3) := by decide +kernel
theorem d_D_message_27 : decode b_D_message 27 = .ok (.bipush 9, 2) := by decide +kernel
theorem d_D_message_29 : decode b_D_message 29 = .ok (.iload_n 1, 1) := by decide +kernel
theorem d_D_message_30 : decode b_D_message 30 = .ok (.imul, 1) := by decide +kernel
theorem d_D_message_31 : decode b_D_message 31 = .ok (.iload_n 2, 1) := by decide +kernel
theorem d_D_message_32 : decode b_D_message 32 = .ok (.iadd, 1) := by decide +kernel
theorem d_D_message_33 : decode b_D_message 33 = .ok (.iaload, 1) := by decide +kernel
theorem d_D_message_34 : decode b_D_message 34 = .ok (.ireturn, 1) := by decide +kernel
theorem d_D_same_0 : decode b_D_same 0 = .ok (.iconst 0, 1) := by decide +kernel
theorem d_D_same_1 : decode b_D_same 1 = .ok (.istore_n 1, 1) := by decide +kernel
theorem d_D_same_2 : decode b_D_same 2 = .ok (.iload_n 1, 1) := by decide +kernel
theorem d_D_same_3 : decode b_D_same 3 = .ok (.aload_n 0, 1) := by decide +kernel
theorem d_D_same_4 : decode b_D_same 4 = .ok (.getfield 13, 3) := by decide +kernel
theorem d_D_same_7 : decode b_D_same 7 = .ok (.iconst 0, 1) := by decide +kernel
theorem d_D_same_8 : decode b_D_same 8 = .ok (.iaload, 1) := by decide +kernel
theorem d_D_same_9 : decode b_D_same 9 = .ok (.if_icmp .ge 73, 3) := by decide +kernel
theorem d_D_same_12 : decode b_D_same 12 = .ok (.iload_n 1, 1) := by decide +kernel
theorem d_D_same_13 : decode b_D_same 13 = .ok (.aload_n 0, 1) := by decide +kernel
theorem d_D_same_14 : decode b_D_same 14 = .ok (.getfield 13, 3) := by decide +kernel
theorem d_D_same_17 : decode b_D_same 17 = .ok (.iconst 1, 1) := by decide +kernel
theorem d_D_same_18 : decode b_D_same 18 = .ok (.iaload, 1) := by decide +kernel
theorem d_D_same_19 : decode b_D_same 19 = .ok (.if_icmp .ge 63, 3) := by decide +kernel
theorem d_D_same_22 : decode b_D_same 22 = .ok (.aload_n 0, 1) := by decide +kernel
theorem d_D_same_23 : decode b_D_same 23 = .ok (.getfield 32, 3) := by decide +kernel
theorem d_D_same_26 : decode b_D_same 26 = .ok (.iload_n 1, 1) := by decide +kernel
theorem d_D_same_27 : decode b_D_same 27 = .ok (.iaload, 1) := by decide +kernel
theorem d_D_same_28 : decode b_D_same 28 = .ok (.aload_n 0, 1) := by decide +kernel
theorem d_D_same_29 : decode b_D_same 29 = .ok (.getfield 32, 3) := by decide +kernel
theorem d_D_same_32 : decode b_D_same 32 = .ok (.bipush 64, 2) := by decide +kernel
theorem d_D_same_34 : decode b_D_same 34 = .ok (.iload_n 1, 1) := by decide +kernel
theorem d_D_same_35 : decode b_D_same 35 = .ok (.iadd, 1) := by decide +kernel
theorem d_D_same_36 : decode b_D_same 36 = .ok (.iaload, 1) := by decide +kernel
theorem d_D_same_37 : decode b_D_same 37 = .ok (.if_icmp .ne 45, 3) := by decide +kernel
theorem d_D_same_40 : decode b_D_same 40 = .ok (.aload_n 0, 1) := by decide +kernel
theorem d_D_same_41 : decode b_D_same 41 = .ok (.getfield 35, 3) := by decide +kernel
theorem d_D_same_44 : decode b_D_same 44 = .ok (.iload_n 1, 1) := by decide +kernel
theorem d_D_same_45 : decode b_D_same 45 = .ok (.iaload, 1) := by decide +kernel
theorem d_D_same_46 : decode b_D_same 46 = .ok (.aload_n 0, 1) := by decide +kernel
theorem d_D_same_47 : decode b_D_same 47 = .ok (.getfield 35, 3) := by decide +kernel
theorem d_D_same_50 : decode b_D_same 50 = .ok (.bipush 64, 2) := by decide +kernel
theorem d_D_same_52 : decode b_D_same 52 = .ok (.iload_n 1, 1) := by decide +kernel
theorem d_D_same_53 : decode b_D_same 53 = .ok (.iadd, 1) := by decide +kernel
theorem d_D_same_54 : decode b_D_same 54 = .ok (.iaload, 1) := by decide +kernel
theorem d_D_same_55 : decode b_D_same 55 = .ok (.if_icmp .ne 27, 3) := by decide +kernel
theorem d_D_same_58 : decode b_D_same 58 = .ok (.aload_n 0, 1) := by decide +kernel
theorem d_D_same_59 : decode b_D_same 59 = .ok (.getfield 38, 3) := by decide +kernel
theorem d_D_same_62 : decode b_D_same 62 = .ok (.iload_n 1, 1) := by decide +kernel
theorem d_D_same_63 : decode b_D_same 63 = .ok (.iaload, 1) := by decide +kernel
theorem d_D_same_64 : decode b_D_same 64 = .ok (.aload_n 0, 1) := by decide +kernel
theorem d_D_same_65 : decode b_D_same 65 = .ok (.getfield 38, 3) := by decide +kernel
theorem d_D_same_68 : decode b_D_same 68 = .ok (.bipush 64, 2) := by decide +kernel
theorem d_D_same_70 : decode b_D_same 70 = .ok (.iload_n 1, 1) := by decide +kernel
theorem d_D_same_71 : decode b_D_same 71 = .ok (.iadd, 1) := by decide +kernel
theorem d_D_same_72 : decode b_D_same 72 = .ok (.iaload, 1) := by decide +kernel
theorem d_D_same_73 : decode b_D_same 73 = .ok (.if_icmp .ne 9, 3) := by decide +kernel
theorem d_D_same_76 : decode b_D_same 76 = .ok (.iinc 1 1, 3) := by decide +kernel
theorem d_D_same_79 : decode b_D_same 79 = .ok (.goto (-77), 3) := by decide +kernel
theorem d_D_same_82 : decode b_D_same 82 = .ok (.iload_n 1, 1) := by decide +kernel
theorem d_D_same_83 : decode b_D_same 83 = .ok (.ireturn, 1) := by decide +kernel
end
section
theorem d_D_send_0 : decode b_D_send 0 = .ok (.aload_n 0, 1) := by decide +kernel
theorem d_D_send_1 : decode b_D_send 1 = .ok (.getfield 50, 3) := by decide +kernel
theorem d_D_send_4 : decode b_D_send 4 = .ok (.bipush 16, 2) := by decide +kernel
theorem d_D_send_6 : decode b_D_send 6 = .ok (.if_icmp .ne 4, 3) := by decide +kernel
theorem d_D_send_9 : decode b_D_send 9 = .ok (.return_, 1) := by decide +kernel
theorem d_D_send_10 : decode b_D_send 10 = .ok (.bipush 9, 2) := by decide +kernel
theorem d_D_send_12 : decode b_D_send 12 = .ok (.aload_n 0, 1) := by decide +kernel
theorem d_D_send_13 : decode b_D_send 13 = .ok (.getfield 50, 3) := by decide +kernel
theorem d_D_send_16 : decode b_D_send 16 = .ok (.imul, 1) := by decide +kernel
theorem d_D_send_17 : decode b_D_send 17 = .ok (.istore 4, 2) := by decide +kernel
theorem d_D_send_19 : decode b_D_send 19 = .ok (.aload_n 0, 1) := by decide +kernel
theorem d_D_send_20 : decode b_D_send 20 = .ok (.getfield 41, 3) := by decide +kernel
theorem d_D_send_23 : decode b_D_send 23 = .ok (.iload 4, 2) := by decide +kernel
theorem d_D_send_25 : decode b_D_send 25 = .ok (.iload_n 2, 1) := by decide +kernel
theorem d_D_send_26 : decode b_D_send 26 = .ok (.iastore, 1) := by decide +kernel
theorem d_D_send_27 : decode b_D_send 27 = .ok (.aload_n 0, 1) := by decide +kernel
theorem d_D_send_28 : decode b_D_send 28 = .ok (.getfield 41, 3) := by decide +kernel
theorem d_D_send_31 : decode b_D_send 31 = .ok (.iload 4, 2) := by decide +kernel
theorem d_D_send_33 : decode b_D_send 33 = .ok (.iconst 1, 1) := by decide +kernel
theorem d_D_send_34 : decode b_D_send 34 = .ok (.iadd, 1) := by decide +kernel
theorem d_D_send_35 : decode b_D_send 35 = .ok (.iconst 1, 1) := by decide +kernel
theorem d_D_send_36 : decode b_D_send 36 = .ok (.iload_n 1, 1) := by decide +kernel
theorem d_D_send_37 : decode b_D_send 37 = .ok (.isub, 1) := by decide +kernel
theorem d_D_send_38 : decode b_D_send 38 = .ok (.iastore, 1) := by decide +kernel
theorem d_D_send_39 : decode b_D_send 39 = .ok (.aload_n 0, 1) := by decide +kernel
theorem d_D_send_40 : decode b_D_send 40 = .ok (.getfield 41, 3) := by decide +kernel
theorem d_D_send_43 : decode b_D_send 43 = .ok (.iload 4, 2) := by decide +kernel
theorem d_D_send_45 : decode b_D_send 45 = .ok (.iconst 2, 1) := by decide +kernel
theorem d_D_send_46 : decode b_D_send 46 = .ok (.iadd, 1) := by decide +kernel
theorem d_D_send_47 : decode b_D_send 47 = .ok (.aload_n 0, 1) := by decide +kernel
theorem d_D_send_48 : decode b_D_send 48 = .ok (.getfield 7, 3) := by decide +kernel
theorem d_D_send_51 : decode b_D_send 51 = .ok (.iload_n 1, 1) := by decide +kernel
theorem d_D_send_52 : decode b_D_send 52 = .ok (.iaload, 1) := by decide +kernel
theorem d_D_send_53 : decode b_D_send 53 = .ok (.iastore, 1) := by decide +kernel
theorem d_D_send_54 : decode b_D_send 54 = .ok (.aload_n 0, 1) := by decide +kernel
theorem d_D_send_55 : decode b_D_send 55 = .ok (.getfield 41, 3) := by decide +kernel
theorem d_D_send_58 : decode b_D_send 58 = .ok (.iload 4, 2) := by decide +kernel
theorem d_D_send_60 : decode b_D_send 60 = .ok (.iconst 3, 1) := by decide +kernel
theorem d_D_send_61 : decode b_D_send 61 = .ok (.iadd, 1) := by decide +kernel
theorem d_D_send_62 : decode b_D_send 62 = .ok (.iload_n 3, 1) := by decide +kernel
theorem d_D_send_63 : decode b_D_send 63 = .ok (.iastore, 1) := by decide +kernel
theorem d_D_send_64 : decode b_D_send 64 = .ok (.iconst 4, 1) := by decide +kernel
theorem d_D_send_65 : decode b_D_send 65 = .ok (.istore 5, 2) := by decide +kernel
theorem d_D_send_67 : decode b_D_send 67 = .ok (.iload 5, 2) := by decide +kernel
theorem d_D_send_69 : decode b_D_send 69 = .ok (.bipush 9, 2) := by decide +kernel
theorem d_D_send_71 : decode b_D_send 71 = .ok (.if_icmp .ge 20, 3) := by decide +kernel
theorem d_D_send_74 : decode b_D_send 74 = .ok (.aload_n 0, 1) := by decide +kernel
theorem d_D_send_75 : decode b_D_send 75 = .ok (.getfield 41, 3) := by decide +kernel
theorem d_D_send_78 : decode b_D_send 78 = .ok (.iload 4, 2) := by decide +kernel
theorem d_D_send_80 : decode b_D_send 80 = .ok (.iload 5, 2) := by decide +kernel
theorem d_D_send_82 : decode b_D_send 82 = .ok (.iadd, 1) := by decide +kernel
theorem d_D_send_83 : decode b_D_send 83 = .ok (.iconst 0, 1) := by decide +kernel
theorem d_D_send_84 : decode b_D_send 84 = .ok (.iastore, 1) := by decide +kernel
theorem d_D_send_85 : decode b_D_send 85 = .ok (.iinc 5 1, 3) := by decide +kernel
theorem d_D_send_88 : decode b_D_send 88 = .ok (.goto (-21), 3) := by decide +kernel
theorem d_D_send_91 : decode b_D_send 91 = .ok (.iload_n 2, 1) := by decide +kernel
theorem d_D_send_92 : decode b_D_send 92 = .ok (.iconst 1, 1) := by decide +kernel
theorem d_D_send_93 : decode b_D_send 93 = .ok (.if_icmp .ne 103, 3) := by decide +kernel
theorem d_D_send_96 : decode b_D_send 96 = .ok (.bipush 64, 2) := by decide +kernel
theorem d_D_send_98 : decode b_D_send 98 = .ok (.iload_n 1, 1) := by decide +kernel
theorem d_D_send_99 : decode b_D_send 99 = .ok (.imul, 1) := by decide +kernel
theorem d_D_send_100 : decode b_D_send 100 = .ok (.iload_n 3, 1) := by decide +kernel
theorem d_D_send_101 : decode b_D_send 101 = .ok (.iadd, 1) := by decide +kernel
theorem d_D_send_102 : decode b_D_send 102 = .ok (.istore 5, 2) := by decide +kernel
theorem d_D_send_104 : decode b_D_send 104 = .ok (.aload_n 0, 1) := by decide +kernel
theorem d_D_send_105 : decode b_D_send 105 = .ok (.getfield 41, 3) := by decide +kernel
theorem d_D_send_108 : decode b_D_send 108 = .ok (.iload 4, 2) := by decide +kernel
theorem d_D_send_110 : decode b_D_send 110 = .ok (.iconst 4, 1) := by decide +kernel
theorem d_D_send_111 : decode b_D_send 111 = .ok (.iadd, 1) := by decide +kernel
theorem d_D_send_112 : decode b_D_send 112 = .ok (.aload_n 0, 1) := by decide +kernel
theorem d_D_send_113 : decode b_D_send 113 = .ok (.getfield 32, 3) := by decide +kernel
theorem d_D_send_116 : decode b_D_send 116 = .ok (.iload 5, 2) := by decide +kernel
theorem d_D_send_118 : decode b_D_send 118 = .ok (.iaload, 1) := by decide +kernel
theorem d_D_send_119 : decode b_D_send 119 = .ok (.iastore, 1) := by decide +kernel
theorem d_D_send_120 : decode b_D_send 120 = .ok (.aload_n 0, 1) := by decide +kernel
theorem d_D_send_121 : decode b_D_send 121 = .ok (.getfield 41, 3) := by decide +kernel
theorem d_D_send_124 : decode b_D_send 124 = .ok (.iload 4, 2) := by decide +kernel
theorem d_D_send_126 : decode b_D_send 126 = .ok (.iconst 5, 1) := by decide +kernel
theorem d_D_send_127 : decode b_D_send 127 = .ok (.iadd, 1) := by decide +kernel
theorem d_D_send_128 : decode b_D_send 128 = .ok (.aload_n 0, 1) := by decide +kernel
theorem d_D_send_129 : decode b_D_send 129 = .ok (.getfield 35, 3) := by decide +kernel
theorem d_D_send_132 : decode b_D_send 132 = .ok (.iload 5, 2) := by decide +kernel
theorem d_D_send_134 : decode b_D_send 134 = .ok (.iaload, 1) := by decide +kernel
theorem d_D_send_135 : decode b_D_send 135 = .ok (.iastore, 1) := by decide +kernel
theorem d_D_send_136 : decode b_D_send 136 = .ok (.aload_n 0, 1) := by decide +kernel
theorem d_D_send_137 : decode b_D_send 137 = .ok (.getfield 41, 3) := by decide +kernel
theorem d_D_send_140 : decode b_D_send 140 = .ok (.iload 4, 2) := by decide +kernel
theorem d_D_send_142 : decode b_D_send 142 = .ok (.bipush 6, 2) := by decide +kernel
theorem d_D_send_144 : decode b_D_send 144 = .ok (.iadd, 1) := by decide +kernel
theorem d_D_send_145 : decode b_D_send 145 = .ok (.aload_n 0, 1) := by decide +kernel
theorem d_D_send_146 : decode b_D_send 146 = .ok (.getfield 38, 3) := by decide +kernel
theorem d_D_send_149 : decode b_D_send 149 = .ok (.iload 5, 2) := by decide +kernel
theorem d_D_send_151 : decode b_D_send 151 = .ok (.iaload, 1) := by decide +kernel
theorem d_D_send_152 : decode b_D_send 152 = .ok (.iastore, 1) := by decide +kernel
theorem d_D_send_153 : decode b_D_send 153 = .ok (.aload_n 0, 1) := by decide +kernel
theorem d_D_send_154 : decode b_D_send 154 = .ok (.getfield 41, 3) := by decide +kernel
theorem d_D_send_157 : decode b_D_send 157 = .ok (.iload 4, 2) := by decide +kernel
theorem d_D_send_159 : decode b_D_send 159 = .ok (.bipush 7, 2) := by decide +kernel
theorem d_D_send_161 : decode b_D_send 161 = .ok (.iadd, 1) := by decide +kernel
theorem d_D_send_162 : decode b_D_send 162 = .ok (.iload_n 3, 1) := by decide +kernel
theorem d_D_send_163 : decode b_D_send 163 = .ok (.ifCond .ne 7, 3) := by decide +kernel
theorem d_D_send_166 : decode b_D_send 166 = .ok (.iconst 0, 1) := by decide +kernel
theorem d_D_send_167 : decode b_D_send 167 = .ok (.goto 12, 3) := by decide +kernel
theorem d_D_send_170 : decode b_D_send 170 = .ok (.aload_n 0, 1) := by decide +kernel
theorem d_D_send_171 : decode b_D_send 171 = .ok (.getfield 32, 3) := by decide +kernel
theorem d_D_send_174 : decode b_D_send 174 = .ok (.iload 5, 2) := by decide +kernel
theorem d_D_send_176 : decode b_D_send 176 = .ok (.iconst 1, 1) := by decide +kernel
theorem d_D_send_177 : decode b_D_send 177 = .ok (.isub, 1) := by decide +kernel
theorem d_D_send_178 : decode b_D_send 178 = .ok (.iaload, 1) := by decide +kernel
theorem d_D_send_179 : decode b_D_send 179 = .ok (.iastore, 1) := by decide +kernel
theorem d_D_send_180 : decode b_D_send 180 = .ok (.aload_n 0, 1) := by decide +kernel
theorem d_D_send_181 : decode b_D_send 181 = .ok (.getfield 41, 3) := by decide +kernel
theorem d_D_send_184 : decode b_D_send 184 = .ok (.iload 4, 2) := by decide +kernel
theorem d_D_send_186 : decode b_D_send 186 = .ok (.bipush 8, 2) := by decide +kernel
theorem d_D_send_188 : decode b_D_send 188 = .ok (.iadd, 1) := by decide +kernel
theorem d_D_send_189 : decode b_D_send 189 = .ok (.aload_n 0, 1) := by decide +kernel
theorem d_D_send_190 : decode b_D_send 190 = .ok (.getfield 13, 3) := by decide +kernel
theorem d_D_send_193 : decode b_D_send 193 = .ok (.iload_n 1, 1) := by decide +kernel
theorem d_D_send_194 : decode b_D_send 194 = .ok (.iaload, 1) := by decide +kernel
theorem d_D_send_195 : decode b_D_send 195 = .ok (.iastore, 1) := by decide +kernel
theorem d_D_send_196 : decode b_D_send 196 = .ok (.aload_n 0, 1) := by decide +kernel
theorem d_D_send_197 : decode b_D_send 197 = .ok (.dup, 1) := by decide +kernel
theorem d_D_send_198 : decode b_D_send 198 = .ok (.getfield 50, 3) := by decide +kernel
theorem d_D_send_201 : decode b_D_send 201 = .ok (.iconst 1, 1) := by decide +kernel
theorem d_D_send_202 : decode b_D_send 202 = .ok (.iadd, 1) := by decide +kernel
theorem d_D_send_203 : decode b_D_send 203 = .ok (.putfield 50, 3) := by decide +kernel
theorem d_D_send_206 : decode b_D_send 206 = .ok (.return_, 1) := by decide +kernel
theorem d_D_pump_0 : decode b_D_pump 0 = .ok (.aload_n 0, 1) := by decide +kernel
theorem d_D_pump_1 : decode b_D_pump 1 = .ok (.getfield 50, 3) := by decide +kernel
theorem d_D_pump_4 : decode b_D_pump 4 = .ok (.ifCond .ne 5, 3) := by decide +kernel
theorem d_D_pump_7 : decode b_D_pump 7 = .ok (.iconst 0, 1) := by decide +kernel
theorem d_D_pump_8 : decode b_D_pump 8 = .ok (.ireturn, 1) := by decide +kernel
theorem d_D_pump_9 : decode b_D_pump 9 = .ok (.iconst 0, 1) := by decide +kernel
theorem d_D_pump_10 : decode b_D_pump 10 = .ok (.istore_n 1, 1) := by decide +kernel
theorem d_D_pump_11 : decode b_D_pump 11 = .ok (.iload_n 1, 1) := by decide +kernel
theorem d_D_pump_12 : decode b_D_pump 12 = .ok (.bipush 9, 2) := by decide +kernel
theorem d_D_pump_14 : decode b_D_pump 14 = .ok (.if_icmp .ge 21, 3) := by decide +kernel
theorem d_D_pump_17 : decode b_D_pump 17 = .ok (.aload_n 0, 1) := by decide +kernel
theorem d_D_pump_18 : decode b_D_pump 18 = .ok (.getfield 44, 3) := by decide +kernel
theorem d_D_pump_21 : decode b_D_pump 21 = .ok (.iload_n 1, 1) := by decide +kernel
theorem d_D_pump_22 : decode b_D_pump 22 = .ok (.aload_n 0, 1) := by decide +kernel
theorem d_D_pump_23 : decode b_D_pump 23 = .ok (.getfield 41, 3) := by decide +kernel
theorem d_D_pump_26 : decode b_D_pump 26 = .ok (.iload_n 1, 1) := by decide +kernel
theorem d_D_pump_27 : decode b_D_pump 27 = .ok (.iaload, 1) := by decide +kernel
theorem d_D_pump_28 : decode b_D_pump 28 = .ok (.iastore, 1) := by decide +kernel
theorem d_D_pump_29 : decode b_D_pump 29 = .ok (.iinc 1 1, 3) := by decide +kernel
theorem d_D_pump_32 : decode b_D_pump 32 = .ok (.goto (-21), 3) := by decide +kernel
theorem d_D_pump_35 : decode b_D_pump 35 = .ok (.aload_n 0, 1) := by decide +kernel
theorem d_D_pump_36 : decode b_D_pump 36 = .ok (.iconst 0, 1) := by decide +kernel
theorem d_D_pump_37 : decode b_D_pump 37 = .ok (.invokevirtual 65, 3) := by decide +kernel
theorem d_D_pump_40 : decode b_D_pump 40 = .ok (.aload_n 0, 1) := by decide +kernel
theorem d_D_pump_41 : decode b_D_pump 41 = .ok (.getfield 44, 3) := by decide +kernel
theorem d_D_pump_44 : decode b_D_pump 44 = .ok (.iconst 1, 1) := by decide +kernel
theorem d_D_pump_45 : decode b_D_pump 45 = .ok (.iaload, 1) := by decide +kernel
theorem d_D_pump_46 : decode b_D_pump 46 = .ok (.istore_n 1, 1) := by decide +kernel
theorem d_D_pump_47 : decode b_D_pump 47 = .ok (.aload_n 0, 1) := by decide +kernel
theorem d_D_pump_48 : decode b_D_pump 48 = .ok (.getfield 16, 3) := by decide +kernel
theorem d_D_pump_51 : decode b_D_pump 51 = .ok (.iload_n 1, 1) := by decide +kernel
theorem d_D_pump_52 : decode b_D_pump 52 = .ok (.baload, 1) := by decide +kernel
theorem d_D_pump_53 : decode b_D_pump 53 = .ok (.ifCond .eq 13, 3) := by decide +kernel
theorem d_D_pump_56 : decode b_D_pump 56 = .ok (.bipush 10, 2) := by decide +kernel
theorem d_D_pump_58 : decode b_D_pump 58 = .ok (.aload_n 0, 1) := by decide +kernel
theorem d_D_pump_59 : decode b_D_pump 59 = .ok (.getfield 44, 3) := by decide +kernel
theorem d_D_pump_62 : decode b_D_pump 62 = .ok (.iconst 0, 1) := by decide +kernel
theorem d_D_pump_63 : decode b_D_pump 63 = .ok (.iaload, 1) := by decide +kernel
theorem d_D_pump_64 : decode b_D_pump 64 = .ok (.iadd, 1) := by decide +kernel
theorem d_D_pump_65 : decode b_D_pump 65 = .ok (.ireturn, 1) := by decide +kernel
theorem d_D_pump_66 : decode b_D_pump 66 = .ok (.aload_n 0, 1) := by decide +kernel
theorem d_D_pump_67 : decode b_D_pump 67 = .ok (.getfield 44, 3) := by decide +kernel
theorem d_D_pump_70 : decode b_D_pump 70 = .ok (.iconst 2, 1) := by decide +kernel
theorem d_D_pump_71 : decode b_D_pump 71 = .ok (.iaload, 1) := by decide +kernel
theorem d_D_pump_72 : decode b_D_pump 72 = .ok (.aload_n 0, 1) := by decide +kernel
theorem d_D_pump_73 : decode b_D_pump 73 = .ok (.getfield 7, 3) := by decide +kernel
theorem d_D_pump_76 : decode b_D_pump 76 = .ok (.iload_n 1, 1) := by decide +kernel
theorem d_D_pump_77 : decode b_D_pump 77 = .ok (.iaload, 1) := by decide +kernel
theorem d_D_pump_78 : decode b_D_pump 78 = .ok (.if_icmp .ge 30, 3) := by decide +kernel
theorem d_D_pump_81 : decode b_D_pump 81 = .ok (.aload_n 0, 1) := by decide +kernel
theorem d_D_pump_82 : decode b_D_pump 82 = .ok (.getfield 44, 3) := by decide +kernel
theorem d_D_pump_85 : decode b_D_pump 85 = .ok (.iconst 0, 1) := by decide +kernel
theorem d_D_pump_86 : decode b_D_pump 86 = .ok (.iaload, 1) := by decide +kernel
theorem d_D_pump_87 : decode b_D_pump 87 = .ok (.iconst 1, 1) := by decide +kernel
theorem d_D_pump_88 : decode b_D_pump 88 = .ok (.if_icmp .ne 10, 3) := by decide +kernel
theorem d_D_pump_91 : decode b_D_pump 91 = .ok (.aload_n 0, 1) := by decide +kernel
theorem d_D_pump_92 : decode b_D_pump 92 = .ok (.iload_n 1, 1) := by decide +kernel
theorem d_D_pump_93 : decode b_D_pump 93 = .ok (.iconst 3, 1) := by decide +kernel
theorem d_D_pump_94 : decode b_D_pump 94 = .ok (.iconst (-1), 1) := by decide +kernel
theorem d_D_pump_95 : decode b_D_pump 95 = .ok (.invokevirtual 61, 3) := by decide +kernel
theorem d_D_pump_98 : decode b_D_pump 98 = .ok (.bipush 20, 2) := by decide +kernel
theorem d_D_pump_100 : decode b_D_pump 100 = .ok (.aload_n 0, 1) := by decide +kernel
theorem d_D_pump_101 : decode b_D_pump 101 = .ok (.getfield 44, 3) := by decide +kernel
theorem d_D_pump_104 : decode b_D_pump 104 = .ok (.iconst 0, 1) := by decide +kernel
theorem d_D_pump_105 : decode b_D_pump 105 = .ok (.iaload, 1) := by decide +kernel
theorem d_D_pump_106 : decode b_D_pump 106 = .ok (.iadd, 1) := by decide +kernel
theorem d_D_pump_107 : decode b_D_pump 107 = .ok (.ireturn, 1) := by decide +kernel
theorem d_D_pump_108 : decode b_D_pump 108 = .ok (.aload_n 0, 1) := by decide +kernel
theorem d_D_pump_109 : decode b_D_pump 109 = .ok (.getfield 44, 3) := by decide +kernel
theorem d_D_pump_112 : decode b_D_pump 112 = .ok (.iconst 2, 1) := by decide +kernel
theorem d_D_pump_113 : decode b_D_pump 113 = .ok (.iaload, 1) := by decide +kernel
theorem d_D_pump_114 : decode b_D_pump 114 = .ok (.aload_n 0, 1) := by decide +kernel
theorem d_D_pump_115 : decode b_D_pump 115 = .ok (.getfield 7, 3) := by decide +kernel
theorem d_D_pump_118 : decode b_D_pump 118 = .ok (.iload_n 1, 1) := by decide +kernel
theorem d_D_pump_119 : decode b_D_pump 119 = .ok (.iaload, 1) := by decide +kernel
theorem d_D_pump_120 : decode b_D_pump 120 = .ok (.if_icmp .le 31, 3) := by decide +kernel
theorem d_D_pump_123 : decode b_D_pump 123 = .ok (.aload_n 0, 1) := by decide +kernel
theorem d_D_pump_124 : decode b_D_pump 124 = .ok (.iload_n 1, 1) := by decide +kernel
theorem d_D_pump_125 : decode b_D_pump 125 = .ok (.aload_n 0, 1) := by decide +kernel
theorem d_D_pump_126 : decode b_D_pump 126 = .ok (.getfield 44, 3) := by decide +kernel
theorem d_D_pump_129 : decode b_D_pump 129 = .ok (.iconst 2, 1) := by decide +kernel
theorem d_D_pump_130 : decode b_D_pump 130 = .ok (.iaload, 1) := by decide +kernel
theorem d_D_pump_131 : decode b_D_pump 131 = .ok (.invokevirtual 69, 3) := by decide +kernel
theorem d_D_pump_134 : decode b_D_pump 134 = .ok (.ifCond .ne 10, 3) := by decide +kernel
theorem d_D_pump_137 : decode b_D_pump 137 = .ok (.aload_n 0, 1) := by decide +kernel
theorem d_D_pump_138 : decode b_D_pump 138 = .ok (.getfield 44, 3) := by decide +kernel
theorem d_D_pump_141 : decode b_D_pump 141 = .ok (.iconst 0, 1) := by decide +kernel
theorem d_D_pump_142 : decode b_D_pump 142 = .ok (.iaload, 1) := by decide +kernel
theorem d_D_pump_143 : decode b_D_pump 143 = .ok (.ireturn, 1) := by decide +kernel
theorem d_D_pump_144 : decode b_D_pump 144 = .ok (.aload_n 0, 1) := by decide +kernel
theorem d_D_pump_145 : decode b_D_pump 145 = .ok (.getfield 20, 3) := by decide +kernel
theorem d_D_pump_148 : decode b_D_pump 148 = .ok (.iload_n 1, 1) := by decide +kernel
theorem d_D_pump_149 : decode b_D_pump 149 = .ok (.iconst 0, 1) := by decide +kernel
theorem d_D_pump_150 : decode b_D_pump 150 = .ok (.bastore, 1) := by decide +kernel
theorem d_D_pump_151 : decode b_D_pump 151 = .ok (.aload_n 0, 1) := by decide +kernel
theorem d_D_pump_152 : decode b_D_pump 152 = .ok (.getfield 20, 3) := by decide +kernel
theorem d_D_pump_155 : decode b_D_pump 155 = .ok (.iload_n 1, 1) := by decide +kernel
theorem d_D_pump_156 : decode b_D_pump 156 = .ok (.baload, 1) := by decide +kernel
theorem d_D_pump_157 : decode b_D_pump 157 = .ok (.aload_n 0, 1) := by decide +kernel
theorem d_D_pump_158 : decode b_D_pump 158 = .ok (.getfield 44, 3) := by decide +kernel
theorem d_D_pump_161 : decode b_D_pump 161 = .ok (.iconst 0, 1) := by decide +kernel
theorem d_D_pump_162 : decode b_D_pump 162 = .ok (.iaload, 1) := by decide +kernel
theorem d_D_pump_163 : decode b_D_pump 163 = .ok (.iconst 1, 1) := by decide +kernel
theorem d_D_pump_164 : decode b_D_pump 164 = .ok (.if_icmp .ne 7, 3) := by decide +kernel
theorem d_D_pump_167 : decode b_D_pump 167 = .ok (.iconst 1, 1) := by decide +kernel
theorem d_D_pump_168 : decode b_D_pump 168 = .ok (.goto 4, 3) := by decide +kernel
theorem d_D_pump_171 : decode b_D_pump 171 = .ok (.iconst 0, 1) := by decide +kernel
theorem d_D_pump_172 : decode b_D_pump 172 = .ok (.if_icmp .ne 13, 3) := by decide +kernel
theorem d_D_pump_175 : decode b_D_pump 175 = .ok (.bipush 20, 2) := by decide +kernel
theorem d_D_pump_177 : decode b_D_pump 177 = .ok (.aload_n 0, 1) := by decide +kernel
theorem d_D_pump_178 : decode b_D_pump 178 = .ok (.getfield 44, 3) := by decide +kernel
theorem d_D_pump_181 : decode b_D_pump 181 = .ok (.iconst 0, 1) := by decide +kernel
theorem d_D_pump_182 : decode b_D_pump 182 = .ok (.iaload, 1) := by decide +kernel
theorem d_D_pump_183 : decode b_D_pump 183 = .ok (.iadd, 1) := by decide +kernel
theorem d_D_pump_184 : decode b_D_pump 184 = .ok (.ireturn, 1) := by decide +kernel
theorem d_D_pump_185 : decode b_D_pump 185 = .ok (.aload_n 0, 1) := by decide +kernel
theorem d_D_pump_186 : decode b_D_pump 186 = .ok (.getfield 44, 3) := by decide +kernel
theorem d_D_pump_189 : decode b_D_pump 189 = .ok (.iconst 0, 1) := by decide +kernel
theorem d_D_pump_190 : decode b_D_pump 190 = .ok (.iaload, 1) := by decide +kernel
theorem d_D_pump_191 : decode b_D_pump 191 = .ok (.iconst 1, 1) := by decide +kernel
theorem d_D_pump_192 : decode b_D_pump 192 = .ok (.if_icmp .ne 26, 3) := by decide +kernel
theorem d_D_pump_195 : decode b_D_pump 195 = .ok (.aload_n 0, 1) := by decide +kernel
theorem d_D_pump_196 : decode b_D_pump 196 = .ok (.getfield 20, 3) := by decide +kernel
theorem d_D_pump_199 : decode b_D_pump 199 = .ok (.iload_n 1, 1) := by decide +kernel
theorem d_D_pump_200 : decode b_D_pump 200 = .ok (.baload, 1) := by decide +kernel
theorem d_D_pump_201 : decode b_D_pump 201 = .ok (.ifCond .ne 17, 3) := by decide +kernel
theorem d_D_pump_204 : decode b_D_pump 204 = .ok (.aload_n 0, 1) := by decide +kernel
theorem d_D_pump_205 : decode b_D_pump 205 = .ok (.iload_n 1, 1) := by decide +kernel
theorem d_D_pump_206 : decode b_D_pump 206 = .ok (.aload_n 0, 1) := by decide +kernel
theorem d_D_pump_207 : decode b_D_pump 207 = .ok (.getfield 44, 3) := by decide +kernel
theorem d_D_pump_210 : decode b_D_pump 210 = .ok (.iconst 3, 1) := by decide +kernel
theorem d_D_pump_211 : decode b_D_pump 211 = .ok (.iaload, 1) := by decide +kernel
theorem d_D_pump_212 : decode b_D_pump 212 = .ok (.invokevirtual 73, 3) := by decide +kernel
theorem d_D_pump_215 : decode b_D_pump 215 = .ok (.goto 139, 3) := by decide +kernel
theorem d_D_pump_218 : decode b_D_pump 218 = .ok (.aload_n 0, 1) := by decide +kernel
theorem d_D_pump_219 : decode b_D_pump 219 = .ok (.getfield 44, 3) := by decide +kernel
theorem d_D_pump_222 : decode b_D_pump 222 = .ok (.iconst 0, 1) := by decide +kernel
theorem d_D_pump_223 : decode b_D_pump 223 = .ok (.iaload, 1) := by decide +kernel
theorem d_D_pump_224 : decode b_D_pump 224 = .ok (.iconst 2, 1) := by decide +kernel
theorem d_D_pump_225 : decode b_D_pump 225 = .ok (.if_icmp .ne 64, 3) := by decide +kernel
theorem d_D_pump_228 : decode b_D_pump 228 = .ok (.aload_n 0, 1) := by decide +kernel
theorem d_D_pump_229 : decode b_D_pump 229 = .ok (.getfield 20, 3) := by decide +kernel
theorem d_D_pump_232 : decode b_D_pump 232 = .ok (.iload_n 1, 1) := by decide +kernel
theorem d_D_pump_233 : decode b_D_pump 233 = .ok (.baload, 1) := by decide +kernel
theorem d_D_pump_234 : decode b_D_pump 234 = .ok (.ifCond .eq 55, 3) := by decide +kernel
theorem d_D_pump_237 : decode b_D_pump 237 = .ok (.aload_n 0, 1) := by decide +kernel
theorem d_D_pump_238 : decode b_D_pump 238 = .ok (.getfield 23, 3) := by decide +kernel
theorem d_D_pump_241 : decode b_D_pump 241 = .ok (.iload_n 1, 1) := by decide +kernel
theorem d_D_pump_242 : decode b_D_pump 242 = .ok (.aload_n 0, 1) := by decide +kernel
theorem d_D_pump_243 : decode b_D_pump 243 = .ok (.getfield 44, 3) := by decide +kernel
theorem d_D_pump_246 : decode b_D_pump 246 = .ok (.iconst 3, 1) := by decide +kernel
theorem d_D_pump_247 : decode b_D_pump 247 = .ok (.iaload, 1) := by decide +kernel
theorem d_D_pump_248 : decode b_D_pump 248 = .ok (.aload_n 0, 1) := by decide +kernel
theorem d_D_pump_249 : decode b_D_pump 249 = .ok (.getfield 23, 3) := by decide +kernel
theorem d_D_pump_252 : decode b_D_pump 252 = .ok (.iload_n 1, 1) := by decide +kernel
theorem d_D_pump_253 : decode b_D_pump 253 = .ok (.iaload, 1) := by decide +kernel
theorem d_D_pump_254 : decode b_D_pump 254 = .ok (.if_icmp .le 12, 3) := by decide +kernel
theorem d_D_pump_257 : decode b_D_pump 257 = .ok (.aload_n 0, 1) := by decide +kernel
theorem d_D_pump_258 : decode b_D_pump 258 = .ok (.getfield 44, 3) := by decide +kernel
theorem d_D_pump_261 : decode b_D_pump 261 = .ok (.iconst 3, 1) := by decide +kernel
theorem d_D_pump_262 : decode b_D_pump 262 = .ok (.iaload, 1) := by decide +kernel
theorem d_D_pump_263 : decode b_D_pump 263 = .ok (.goto 9, 3) := by decide +kernel
theorem d_D_pump_266 : decode b_D_pump 266 = .ok (.aload_n 0, 1) := by decide +kernel
theorem d_D_pump_267 : decode b_D_pump 267 = .ok (.getfield 23, 3) := by decide +kernel
theorem d_D_pump_270 : decode b_D_pump 270 = .ok (.iload_n 1, 1) := by decide +kernel
theorem d_D_pump_271 : decode b_D_pump 271 = .ok (.iaload, 1) := by decide +kernel
theorem d_D_pump_272 : decode b_D_pump 272 = .ok (.iastore, 1) := by decide +kernel
theorem d_D_pump_273 : decode b_D_pump 273 = .ok (.aload_n 0, 1) := by decide +kernel
theorem d_D_pump_274 : decode b_D_pump 274 = .ok (.iload_n 1, 1) := by decide +kernel
theorem d_D_pump_275 : decode b_D_pump 275 = .ok (.aload_n 0, 1) := by decide +kernel
theorem d_D_pump_276 : decode b_D_pump 276 = .ok (.getfield 44, 3) := by decide +kernel
theorem d_D_pump_279 : decode b_D_pump 279 = .ok (.iconst 3, 1) := by decide +kernel
theorem d_D_pump_280 : decode b_D_pump 280 = .ok (.iaload, 1) := by decide +kernel
theorem d_D_pump_281 : decode b_D_pump 281 = .ok (.iconst 1, 1) := by decide +kernel
theorem d_D_pump_282 : decode b_D_pump 282 = .ok (.iadd, 1) := by decide +kernel
theorem d_D_pump_283 : decode b_D_pump 283 = .ok (.invokevirtual 77, 3) := by decide +kernel
theorem d_D_pump_286 : decode b_D_pump 286 = .ok (.goto 68, 3) := by decide +kernel
theorem d_D_pump_289 : decode b_D_pump 289 = .ok (.aload_n 0, 1) := by decide +kernel
theorem d_D_pump_290 : decode b_D_pump 290 = .ok (.getfield 44, 3) := by decide +kernel
theorem d_D_pump_293 : decode b_D_pump 293 = .ok (.iconst 0, 1) := by decide +kernel
theorem d_D_pump_294 : decode b_D_pump 294 = .ok (.iaload, 1) := by decide +kernel
theorem d_D_pump_295 : decode b_D_pump 295 = .ok (.iconst 3, 1) := by decide +kernel
theorem d_D_pump_296 : decode b_D_pump 296 = .ok (.if_icmp .ne 58, 3) := by decide +kernel
theorem d_D_pump_299 : decode b_D_pump 299 = .ok (.aload_n 0, 1) := by decide +kernel
theorem d_D_pump_300 : decode b_D_pump 300 = .ok (.getfield 20, 3) := by decide +kernel
theorem d_D_pump_303 : decode b_D_pump 303 = .ok (.iload_n 1, 1) := by decide +kernel
theorem d_D_pump_304 : decode b_D_pump 304 = .ok (.baload, 1) := by decide +kernel
theorem d_D_pump_305 : decode b_D_pump 305 = .ok (.ifCond .eq 49, 3) := by decide +kernel
theorem d_D_pump_308 : decode b_D_pump 308 = .ok (.aload_n 0, 1) := by decide +kernel
theorem d_D_pump_309 : decode b_D_pump 309 = .ok (.getfield 44, 3) := by decide +kernel
theorem d_D_pump_312 : decode b_D_pump 312 = .ok (.iconst 3, 1) := by decide +kernel
theorem d_D_pump_313 : decode b_D_pump 313 = .ok (.iaload, 1) := by decide +kernel
theorem d_D_pump_314 : decode b_D_pump 314 = .ok (.ifCond .lt 40, 3) := by decide +kernel
theorem d_D_pump_317 : decode b_D_pump 317 = .ok (.aload_n 0, 1) := by decide +kernel
theorem d_D_pump_318 : decode b_D_pump 318 = .ok (.iload_n 1, 1) := by decide +kernel
theorem d_D_pump_319 : decode b_D_pump 319 = .ok (.aload_n 0, 1) := by decide +kernel
theorem d_D_pump_320 : decode b_D_pump 320 = .ok (.getfield 44, 3) := by decide +kernel
theorem d_D_pump_323 : decode b_D_pump 323 = .ok (.iconst 3, 1) := by decide +kernel
theorem d_D_pump_324 : decode b_D_pump 324 = .ok (.iaload, 1) := by decide +kernel
theorem d_D_pump_325 : decode b_D_pump 325 = .ok (.aload_n 0, 1) := by decide +kernel
theorem d_D_pump_326 : decode b_D_pump 326 = .ok (.getfield 13, 3) := by decide +kernel
theorem d_D_pump_329 : decode b_D_pump 329 = .ok (.iload_n 1, 1) := by decide +kernel
theorem d_D_pump_330 : decode b_D_pump 330 = .ok (.iaload, 1) := by decide +kernel
theorem d_D_pump_331 : decode b_D_pump 331 = .ok (.if_icmp .ge 12, 3) := by decide +kernel
theorem d_D_pump_334 : decode b_D_pump 334 = .ok (.aload_n 0, 1) := by decide +kernel
theorem d_D_pump_335 : decode b_D_pump 335 = .ok (.getfield 44, 3) := by decide +kernel
theorem d_D_pump_338 : decode b_D_pump 338 = .ok (.iconst 3, 1) := by decide +kernel
theorem d_D_pump_339 : decode b_D_pump 339 = .ok (.iaload, 1) := by decide +kernel
theorem d_D_pump_340 : decode b_D_pump 340 = .ok (.goto 11, 3) := by decide +kernel
theorem d_D_pump_343 : decode b_D_pump 343 = .ok (.aload_n 0, 1) := by decide +kernel
theorem d_D_pump_344 : decode b_D_pump 344 = .ok (.getfield 13, 3) := by decide +kernel
theorem d_D_pump_347 : decode b_D_pump 347 = .ok (.iload_n 1, 1) := by decide +kernel
theorem d_D_pump_348 : decode b_D_pump 348 = .ok (.iaload, 1) := by decide +kernel
theorem d_D_pump_349 : decode b_D_pump 349 = .ok (.iconst 1, 1) := by decide +kernel
theorem d_D_pump_350 : decode b_D_pump 350 = .ok (.isub, 1) := by decide +kernel
theorem d_D_pump_351 : decode b_D_pump 351 = .ok (.invokevirtual 77, 3) := by decide +kernel
theorem d_D_pump_354 : decode b_D_pump 354 = .ok (.aload_n 0, 1) := by decide +kernel
theorem d_D_pump_355 : decode b_D_pump 355 = .ok (.getfield 44, 3) := by decide +kernel
theorem d_D_pump_358 : decode b_D_pump 358 = .ok (.iconst 0, 1) := by decide +kernel
theorem d_D_pump_359 : decode b_D_pump 359 = .ok (.iaload, 1) := by decide +kernel
theorem d_D_pump_360 : decode b_D_pump 360 = .ok (.ireturn, 1) := by decide +kernel
theorem d_D_shipped_0 : decode b_D_shipped 0 = .ok (.aload_n 0, 1) := by decide +kernel
theorem d_D_shipped_1 : decode b_D_shipped 1 = .ok (.getfield 13, 3) := by decide +kernel
theorem d_D_shipped_4 : decode b_D_shipped 4 = .ok (.iload_n 1, 1) := by decide +kernel
theorem d_D_shipped_5 : decode b_D_shipped 5 = .ok (.iaload, 1) := by decide +kernel
theorem d_D_shipped_6 : decode b_D_shipped 6 = .ok (.iload_n 2, 1) := by decide +kernel
theorem d_D_shipped_7 : decode b_D_shipped 7 = .ok (.if_icmp .ge 16, 3) := by decide +kernel
theorem d_D_shipped_10 : decode b_D_shipped 10 = .ok (.aload_n 0, 1) := by decide +kernel
theorem d_D_shipped_11 : decode b_D_shipped 11 = .ok (.iload_n 1, 1) := by decide +kernel
theorem d_D_shipped_12 : decode b_D_shipped 12 = .ok (.iconst 3, 1) := by decide +kernel
theorem d_D_shipped_13 : decode b_D_shipped 13 = .ok (.aload_n 0, 1) := by decide +kernel
theorem d_D_shipped_14 : decode b_D_shipped 14 = .ok (.getfield 13, 3) := by decide +kernel
theorem d_D_shipped_17 : decode b_D_shipped 17 = .ok (.iload_n 1, 1) := by decide +kernel
theorem d_D_shipped_18 : decode b_D_shipped 18 = .ok (.iaload, 1) := by decide +kernel
theorem d_D_shipped_19 : decode b_D_shipped 19 = .ok (.invokevirtual 61, 3) := by decide +kernel
theorem d_D_shipped_22 : decode b_D_shipped 22 = .ok (.return_, 1) := by decide +kernel
theorem d_D_shipped_23 : decode b_D_shipped 23 = .ok (.iload_n 2, 1) := by decide +kernel
theorem d_D_shipped_24 : decode b_D_shipped 24 = .ok (.ifCond .le 47, 3) := by decide +kernel
theorem d_D_shipped_27 : decode b_D_shipped 27 = .ok (.aload_n 0, 1) := by decide +kernel
theorem d_D_shipped_28 : decode b_D_shipped 28 = .ok (.getfield 32, 3) := by decide +kernel
theorem d_D_shipped_31 : decode b_D_shipped 31 = .ok (.bipush 64, 2) := by decide +kernel
theorem d_D_shipped_33 : decode b_D_shipped 33 = .ok (.iload_n 1, 1) := by decide +kernel
theorem d_D_shipped_34 : decode b_D_shipped 34 = .ok (.imul, 1) := by decide +kernel
theorem d_D_shipped_35 : decode b_D_shipped 35 = .ok (.iload_n 2, 1) := by decide +kernel
theorem d_D_shipped_36 : decode b_D_shipped 36 = .ok (.iadd, 1) := by decide +kernel
theorem d_D_shipped_37 : decode b_D_shipped 37 = .ok (.iconst 1, 1) := by decide +kernel
theorem d_D_shipped_38 : decode b_D_shipped 38 = .ok (.isub, 1) := by decide +kernel
theorem d_D_shipped_39 : decode b_D_shipped 39 = .ok (.iaload, 1) := by decide +kernel
theorem d_D_shipped_40 : decode b_D_shipped 40 = .ok (.aload_n 0, 1) := by decide +kernel
theorem d_D_shipped_41 : decode b_D_shipped 41 = .ok (.getfield 44, 3) := by decide +kernel
theorem d_D_shipped_44 : decode b_D_shipped 44 = .ok (.bipush 7, 2) := by decide +kernel
theorem d_D_shipped_46 : decode b_D_shipped 46 = .ok (.iaload, 1) := by decide +kernel
theorem d_D_shipped_47 : decode b_D_shipped 47 = .ok (.if_icmp .eq 24, 3) := by decide +kernel
theorem d_D_shipped_50 : decode b_D_shipped 50 = .ok (.aload_n 0, 1) := by decide +kernel
theorem d_D_shipped_51 : decode b_D_shipped 51 = .ok (.iload_n 1, 1) := by decide +kernel
theorem d_D_shipped_52 : decode b_D_shipped 52 = .ok (.iload_n 2, 1) := by decide +kernel
theorem d_D_shipped_53 : decode b_D_shipped 53 = .ok (.iconst 1, 1) := by decide +kernel
theorem d_D_shipped_54 : decode b_D_shipped 54 = .ok (.isub, 1) := by decide +kernel
theorem d_D_shipped_55 : decode b_D_shipped 55 = .ok (.invokevirtual 80, 3) := by decide +kernel
theorem d_D_shipped_58 : decode b_D_shipped 58 = .ok (.ifCond .eq 12, 3) := by decide +kernel
theorem d_D_shipped_61 : decode b_D_shipped 61 = .ok (.aload_n 0, 1) := by decide +kernel
theorem d_D_shipped_62 : decode b_D_shipped 62 = .ok (.iload_n 1, 1) := by decide +kernel
theorem d_D_shipped_63 : decode b_D_shipped 63 = .ok (.iconst 3, 1) := by decide +kernel
theorem d_D_shipped_64 : decode b_D_shipped 64 = .ok (.iload_n 2, 1) := by decide +kernel
theorem d_D_shipped_65 : decode b_D_shipped 65 = .ok (.iconst 1, 1) := by decide +kernel
theorem d_D_shipped_66 : decode b_D_shipped 66 = .ok (.isub, 1) := by decide +kernel
theorem d_D_shipped_67 : decode b_D_shipped 67 = .ok (.invokevirtual 61, 3) := by decide +kernel
theorem d_D_shipped_70 : decode b_D_shipped 70 = .ok (.return_, 1) := by decide +kernel
theorem d_D_shipped_71 : decode b_D_shipped 71 = .ok (.bipush 64, 2) := by decide +kernel
theorem d_D_shipped_73 : decode b_D_shipped 73 = .ok (.iload_n 1, 1) := by decide +kernel
theorem d_D_shipped_74 : decode b_D_shipped 74 = .ok (.imul, 1) := by decide +kernel
theorem d_D_shipped_75 : decode b_D_shipped 75 = .ok (.iload_n 2, 1) := by decide +kernel
theorem d_D_shipped_76 : decode b_D_shipped 76 = .ok (.iadd, 1) := by decide +kernel
theorem d_D_shipped_77 : decode b_D_shipped 77 = .ok (.istore_n 3, 1) := by decide +kernel
theorem d_D_shipped_78 : decode b_D_shipped 78 = .ok (.aload_n 0, 1) := by decide +kernel
theorem d_D_shipped_79 : decode b_D_shipped 79 = .ok (.getfield 13, 3) := by decide +kernel
theorem d_D_shipped_82 : decode b_D_shipped 82 = .ok (.iload_n 1, 1) := by decide +kernel
theorem d_D_shipped_83 : decode b_D_shipped 83 = .ok (.iaload, 1) := by decide +kernel
theorem d_D_shipped_84 : decode b_D_shipped 84 = .ok (.iload_n 2, 1) := by decide +kernel
theorem d_D_shipped_85 : decode b_D_shipped 85 = .ok (.if_icmp .le 59, 3) := by decide +kernel
theorem d_D_shipped_88 : decode b_D_shipped 88 = .ok (.aload_n 0, 1) := by decide +kernel
theorem d_D_shipped_89 : decode b_D_shipped 89 = .ok (.getfield 32, 3) := by decide +kernel
theorem d_D_shipped_92 : decode b_D_shipped 92 = .ok (.iload_n 3, 1) := by decide +kernel
theorem d_D_shipped_93 : decode b_D_shipped 93 = .ok (.iaload, 1) := by decide +kernel
theorem d_D_shipped_94 : decode b_D_shipped 94 = .ok (.aload_n 0, 1) := by decide +kernel
theorem d_D_shipped_95 : decode b_D_shipped 95 = .ok (.getfield 44, 3) := by decide +kernel
theorem d_D_shipped_98 : decode b_D_shipped 98 = .ok (.iconst 4, 1) := by decide +kernel
theorem d_D_shipped_99 : decode b_D_shipped 99 = .ok (.iaload, 1) := by decide +kernel
theorem d_D_shipped_100 : decode b_D_shipped 100 = .ok (.if_icmp .ne 34, 3) := by decide +kernel
theorem d_D_shipped_103 : decode b_D_shipped 103 = .ok (.aload_n 0, 1) := by decide +kernel
theorem d_D_shipped_104 : decode b_D_shipped 104 = .ok (.getfield 35, 3) := by decide +kernel
theorem d_D_shipped_107 : decode b_D_shipped 107 = .ok (.iload_n 3, 1) := by decide +kernel
theorem d_D_shipped_108 : decode b_D_shipped 108 = .ok (.iaload, 1) := by decide +kernel
theorem d_D_shipped_109 : decode b_D_shipped 109 = .ok (.aload_n 0, 1) := by decide +kernel
theorem d_D_shipped_110 : decode b_D_shipped 110 = .ok (.getfield 44, 3) := by decide +kernel
theorem d_D_shipped_113 : decode b_D_shipped 113 = .ok (.iconst 5, 1) := by decide +kernel
theorem d_D_shipped_114 : decode b_D_shipped 114 = .ok (.iaload, 1) := by decide +kernel
theorem d_D_shipped_115 : decode b_D_shipped 115 = .ok (.if_icmp .ne 19, 3) := by decide +kernel
theorem d_D_shipped_118 : decode b_D_shipped 118 = .ok (.aload_n 0, 1) := by decide +kernel
theorem d_D_shipped_119 : decode b_D_shipped 119 = .ok (.getfield 38, 3) := by decide +kernel
theorem d_D_shipped_122 : decode b_D_shipped 122 = .ok (.iload_n 3, 1) := by decide +kernel
theorem d_D_shipped_123 : decode b_D_shipped 123 = .ok (.iaload, 1) := by decide +kernel
theorem d_D_shipped_124 : decode b_D_shipped 124 = .ok (.aload_n 0, 1) := by decide +kernel
theorem d_D_shipped_125 : decode b_D_shipped 125 = .ok (.getfield 44, 3) := by decide +kernel
theorem d_D_shipped_128 : decode b_D_shipped 128 = .ok (.bipush 6, 2) := by decide +kernel
theorem d_D_shipped_130 : decode b_D_shipped 130 = .ok (.iaload, 1) := by decide +kernel
theorem d_D_shipped_131 : decode b_D_shipped 131 = .ok (.if_icmp .eq 13, 3) := by decide +kernel
theorem d_D_shipped_134 : decode b_D_shipped 134 = .ok (.aload_n 0, 1) := by decide +kernel
theorem d_D_shipped_135 : decode b_D_shipped 135 = .ok (.iload_n 1, 1) := by decide +kernel
theorem d_D_shipped_136 : decode b_D_shipped 136 = .ok (.iload_n 2, 1) := by decide +kernel
theorem d_D_shipped_137 : decode b_D_shipped 137 = .ok (.invokevirtual 80, 3) := by decide +kernel
theorem d_D_shipped_140 : decode b_D_shipped 140 = .ok (.ifCond .ne 4, 3) := by decide +kernel
theorem d_D_shipped_143 : decode b_D_shipped 143 = .ok (.return_, 1) := by decide +kernel
theorem d_D_shipped_144 : decode b_D_shipped 144 = .ok (.aload_n 0, 1) := by decide +kernel
theorem d_D_shipped_145 : decode b_D_shipped 145 = .ok (.getfield 13, 3) := by decide +kernel
theorem d_D_shipped_148 : decode b_D_shipped 148 = .ok (.iload_n 1, 1) := by decide +kernel
theorem d_D_shipped_149 : decode b_D_shipped 149 = .ok (.iaload, 1) := by decide +kernel
theorem d_D_shipped_150 : decode b_D_shipped 150 = .ok (.iload_n 2, 1) := by decide +kernel
theorem d_D_shipped_151 : decode b_D_shipped 151 = .ok (.if_icmp .ne 31, 3) := by decide +kernel
theorem d_D_shipped_154 : decode b_D_shipped 154 = .ok (.aload_n 0, 1) := by decide +kernel
theorem d_D_shipped_155 : decode b_D_shipped 155 = .ok (.iload_n 1, 1) := by decide +kernel
theorem d_D_shipped_156 : decode b_D_shipped 156 = .ok (.aload_n 0, 1) := by decide +kernel
theorem d_D_shipped_157 : decode b_D_shipped 157 = .ok (.getfield 44, 3) := by decide +kernel
theorem d_D_shipped_160 : decode b_D_shipped 160 = .ok (.iconst 4, 1) := by decide +kernel
theorem d_D_shipped_161 : decode b_D_shipped 161 = .ok (.iaload, 1) := by decide +kernel
theorem d_D_shipped_162 : decode b_D_shipped 162 = .ok (.aload_n 0, 1) := by decide +kernel
theorem d_D_shipped_163 : decode b_D_shipped 163 = .ok (.getfield 44, 3) := by decide +kernel
theorem d_D_shipped_166 : decode b_D_shipped 166 = .ok (.iconst 5, 1) := by decide +kernel
theorem d_D_shipped_167 : decode b_D_shipped 167 = .ok (.iaload, 1) := by decide +kernel
theorem d_D_shipped_168 : decode b_D_shipped 168 = .ok (.aload_n 0, 1) := by decide +kernel
theorem d_D_shipped_169 : decode b_D_shipped 169 = .ok (.getfield 44, 3) := by decide +kernel
theorem d_D_shipped_172 : decode b_D_shipped 172 = .ok (.bipush 6, 2) := by decide +kernel
theorem d_D_shipped_174 : decode b_D_shipped 174 = .ok (.iaload, 1) := by decide +kernel
theorem d_D_shipped_175 : decode b_D_shipped 175 = .ok (.invokevirtual 57, 3) := by decide +kernel
theorem d_D_shipped_178 : decode b_D_shipped 178 = .ok (.ifCond .ne 4, 3) := by decide +kernel
theorem d_D_shipped_181 : decode b_D_shipped 181 = .ok (.return_, 1) := by decide +kernel
theorem d_D_shipped_182 : decode b_D_shipped 182 = .ok (.aload_n 0, 1) := by decide +kernel
theorem d_D_shipped_183 : decode b_D_shipped 183 = .ok (.getfield 13, 3) := by decide +kernel
theorem d_D_shipped_186 : decode b_D_shipped 186 = .ok (.iload_n 1, 1) := by decide +kernel
theorem d_D_shipped_187 : decode b_D_shipped 187 = .ok (.iaload, 1) := by decide +kernel
theorem d_D_shipped_188 : decode b_D_shipped 188 = .ok (.aload_n 0, 1) := by decide +kernel
theorem d_D_shipped_189 : decode b_D_shipped 189 = .ok (.getfield 44, 3) := by decide +kernel
theorem d_D_shipped_192 : decode b_D_shipped 192 = .ok (.bipush 8, 2) := by decide +kernel
theorem d_D_shipped_194 : decode b_D_shipped 194 = .ok (.iaload, 1) := by decide +kernel
theorem d_D_shipped_195 : decode b_D_shipped 195 = .ok (.if_icmp .le 19, 3) := by decide +kernel
theorem d_D_shipped_198 : decode b_D_shipped 198 = .ok (.aload_n 0, 1) := by decide +kernel
theorem d_D_shipped_199 : decode b_D_shipped 199 = .ok (.iload_n 1, 1) := by decide +kernel
theorem d_D_shipped_200 : decode b_D_shipped 200 = .ok (.aload_n 0, 1) := by decide +kernel
theorem d_D_shipped_201 : decode b_D_shipped 201 = .ok (.getfield 44, 3) := by decide +kernel
theorem d_D_shipped_204 : decode b_D_shipped 204 = .ok (.bipush 8, 2) := by decide +kernel
theorem d_D_shipped_206 : decode b_D_shipped 206 = .ok (.iaload, 1) := by decide +kernel
theorem d_D_shipped_207 : decode b_D_shipped 207 = .ok (.invokevirtual 80, 3) := by decide +kernel
theorem d_D_shipped_210 : decode b_D_shipped 210 = .ok (.ifCond .ne 4, 3) := by decide +kernel
theorem d_D_shipped_213 : decode b_D_shipped 213 = .ok (.return_, 1) := by decide +kernel
theorem d_D_shipped_214 : decode b_D_shipped 214 = .ok (.aload_n 0, 1) := by decide +kernel
theorem d_D_shipped_215 : decode b_D_shipped 215 = .ok (.iload_n 1, 1) := by decide +kernel
theorem d_D_shipped_216 : decode b_D_shipped 216 = .ok (.iconst 2, 1) := by decide +kernel
theorem d_D_shipped_217 : decode b_D_shipped 217 = .ok (.iload_n 2, 1) := by decide +kernel
theorem d_D_shipped_218 : decode b_D_shipped 218 = .ok (.invokevirtual 61, 3) := by decide +kernel
theorem d_D_shipped_221 : decode b_D_shipped 221 = .ok (.return_, 1) := by decide +kernel
end
section
theorem d_L_law_0 : decode code 0 = .ok (.new 7, 3) := by decide +kernel
theorem d_L_law_3 : decode code 3 = .ok (.dup, 1) := by decide +kernel
theorem d_L_law_4 : decode code 4 = .ok (.invokespecial 9, 3) := by decide +kernel
theorem d_L_law_7 : decode code 7 = .ok (.astore_n 1, 1) := by decide +kernel
theorem d_L_law_8 : decode code 8 = .ok (.new 10, 3) := by decide +kernel
theorem d_L_law_11 : decode code 11 = .ok (.dup, 1) := by decide +kernel
theorem d_L_law_12 : decode code 12 = .ok (.invokespecial 12, 3) := by decide +kernel
theorem d_L_law_15 : decode code 15 = .ok (.astore_n 2, 1) := by decide +kernel
theorem d_L_law_16 : decode code 16 = .ok (.iconst 0, 1) := by decide +kernel
theorem d_L_law_17 : decode code 17 = .ok (.istore_n 3, 1) := by decide +kernel
theorem d_L_law_18 : decode code 18 = .ok (.iload_n 3, 1) := by decide +kernel
theorem d_L_law_19 : decode code 19 = .ok (.aload_n 0, 1) := by decide +kernel
theorem d_L_law_20 : decode code 20 = .ok (.arraylength, 1) := by decide +kernel
theorem d_L_law_21 : decode code 21 = .ok (.iconst 4, 1) := by decide +kernel
theorem d_L_law_22 : decode code 22 = .ok (.isub, 1) := by decide +kernel
theorem d_L_law_23 : decode code 23 = .ok (.if_icmp .gt 442, 3) := by decide +kernel
theorem d_L_law_26 : decode code 26 = .ok (.aload_n 0, 1) := by decide +kernel
theorem d_L_law_27 : decode code 27 = .ok (.iload_n 3, 1) := by decide +kernel
theorem d_L_law_28 : decode code 28 = .ok (.iaload, 1) := by decide +kernel
theorem d_L_law_29 : decode code 29 = .ok (.bipush 15, 2) := by decide +kernel
theorem d_L_law_31 : decode code 31 = .ok (.iand, 1) := by decide +kernel
theorem d_L_law_32 : decode code 32 = .ok (.tableswitch 427 0 12 #[68, 111, 144, 157, 180, 213, 236, 259, 282, 305, 338, 381, 414], 68) := by decide +kernel
theorem d_L_law_100 : decode code 100 = .ok (.aload_n 1, 1) := by decide +kernel
theorem d_L_law_101 : decode code 101 = .ok (.aload_n 0, 1) := by decide +kernel
theorem d_L_law_102 : decode code 102 = .ok (.iload_n 3, 1) := by decide +kernel
theorem d_L_law_103 : decode code 103 = .ok (.iconst 1, 1) := by decide +kernel
theorem d_L_law_104 : decode code 104 = .ok (.iadd, 1) := by decide +kernel
theorem d_L_law_105 : decode code 105 = .ok (.iaload, 1) := by decide +kernel
theorem d_L_law_106 : decode code 106 = .ok (.aload_n 0, 1) := by decide +kernel
theorem d_L_law_107 : decode code 107 = .ok (.iload_n 3, 1) := by decide +kernel
theorem d_L_law_108 : decode code 108 = .ok (.iconst 2, 1) := by decide +kernel
theorem d_L_law_109 : decode code 109 = .ok (.iadd, 1) := by decide +kernel
theorem d_L_law_110 : decode code 110 = .ok (.iaload, 1) := by decide +kernel
theorem d_L_law_111 : decode code 111 = .ok (.aload_n 0, 1) := by decide +kernel
theorem d_L_law_112 : decode code 112 = .ok (.iload_n 3, 1) := by decide +kernel
theorem d_L_law_113 : decode code 113 = .ok (.iconst 3, 1) := by decide +kernel
theorem d_L_law_114 : decode code 114 = .ok (.iadd, 1) := by decide +kernel
theorem d_L_law_115 : decode code 115 = .ok (.iaload, 1) := by decide +kernel
theorem d_L_law_116 : decode code 116 = .ok (.invokevirtual 13, 3) := by decide +kernel
theorem d_L_law_119 : decode code 119 = .ok (.aload_n 2, 1) := by decide +kernel
theorem d_L_law_120 : decode code 120 = .ok (.aload_n 0, 1) := by decide +kernel
theorem d_L_law_121 : decode code 121 = .ok (.iload_n 3, 1) := by decide +kernel
theorem d_L_law_122 : decode code 122 = .ok (.iconst 1, 1) := by decide +kernel
theorem d_L_law_123 : decode code 123 = .ok (.iadd, 1) := by decide +kernel
theorem d_L_law_124 : decode code 124 = .ok (.iaload, 1) := by decide +kernel
theorem d_L_law_125 : decode code 125 = .ok (.aload_n 0, 1) := by decide +kernel
theorem d_L_law_126 : decode code 126 = .ok (.iload_n 3, 1) := by decide +kernel
theorem d_L_law_127 : decode code 127 = .ok (.iconst 2, 1) := by decide +kernel
theorem d_L_law_128 : decode code 128 = .ok (.iadd, 1) := by decide +kernel
theorem d_L_law_129 : decode code 129 = .ok (.iaload, 1) := by decide +kernel
theorem d_L_law_130 : decode code 130 = .ok (.aload_n 0, 1) := by decide +kernel
theorem d_L_law_131 : decode code 131 = .ok (.iload_n 3, 1) := by decide +kernel
theorem d_L_law_132 : decode code 132 = .ok (.iconst 3, 1) := by decide +kernel
theorem d_L_law_133 : decode code 133 = .ok (.iadd, 1) := by decide +kernel
theorem d_L_law_134 : decode code 134 = .ok (.iaload, 1) := by decide +kernel
theorem d_L_law_135 : decode code 135 = .ok (.invokevirtual 17, 3) := by decide +kernel
theorem d_L_law_138 : decode code 138 = .ok (.if_icmp .eq 321, 3) := by decide +kernel
theorem d_L_law_141 : decode code 141 = .ok (.iconst 0, 1) := by decide +kernel
theorem d_L_law_142 : decode code 142 = .ok (.ireturn, 1) := by decide +kernel
theorem d_L_law_143 : decode code 143 = .ok (.aload_n 1, 1) := by decide +kernel
theorem d_L_law_144 : decode code 144 = .ok (.aload_n 0, 1) := by decide +kernel
theorem d_L_law_145 : decode code 145 = .ok (.iload_n 3, 1) := by decide +kernel
theorem d_L_law_146 : decode code 146 = .ok (.iconst 1, 1) := by decide +kernel
theorem d_L_law_147 : decode code 147 = .ok (.iadd, 1) := by decide +kernel
theorem d_L_law_148 : decode code 148 = .ok (.iaload, 1) := by decide +kernel
theorem d_L_law_149 : decode code 149 = .ok (.aload_n 0, 1) := by decide +kernel
theorem d_L_law_150 : decode code 150 = .ok (.iload_n 3, 1) := by decide +kernel
theorem d_L_law_151 : decode code 151 = .ok (.iconst 2, 1) := by decide +kernel
theorem d_L_law_152 : decode code 152 = .ok (.iadd, 1) := by decide +kernel
theorem d_L_law_153 : decode code 153 = .ok (.iaload, 1) := by decide +kernel
theorem d_L_law_154 : decode code 154 = .ok (.invokevirtual 18, 3) := by decide +kernel
theorem d_L_law_157 : decode code 157 = .ok (.aload_n 2, 1) := by decide +kernel
theorem d_L_law_158 : decode code 158 = .ok (.aload_n 0, 1) := by decide +kernel
theorem d_L_law_159 : decode code 159 = .ok (.iload_n 3, 1) := by decide +kernel
theorem d_L_law_160 : decode code 160 = .ok (.iconst 1, 1) := by decide +kernel
theorem d_L_law_161 : decode code 161 = .ok (.iadd, 1) := by decide +kernel
theorem d_L_law_162 : decode code 162 = .ok (.iaload, 1) := by decide +kernel
theorem d_L_law_163 : decode code 163 = .ok (.aload_n 0, 1) := by decide +kernel
theorem d_L_law_164 : decode code 164 = .ok (.iload_n 3, 1) := by decide +kernel
theorem d_L_law_165 : decode code 165 = .ok (.iconst 2, 1) := by decide +kernel
theorem d_L_law_166 : decode code 166 = .ok (.iadd, 1) := by decide +kernel
theorem d_L_law_167 : decode code 167 = .ok (.iaload, 1) := by decide +kernel
theorem d_L_law_168 : decode code 168 = .ok (.invokevirtual 22, 3) := by decide +kernel
theorem d_L_law_171 : decode code 171 = .ok (.if_icmp .eq 288, 3) := by decide +kernel
theorem d_L_law_174 : decode code 174 = .ok (.iconst 0, 1) := by decide +kernel
theorem d_L_law_175 : decode code 175 = .ok (.ireturn, 1) := by decide +kernel
theorem d_L_law_176 : decode code 176 = .ok (.aload_n 1, 1) := by decide +kernel
theorem d_L_law_177 : decode code 177 = .ok (.invokevirtual 23, 3) := by decide +kernel
theorem d_L_law_180 : decode code 180 = .ok (.aload_n 2, 1) := by decide +kernel
theorem d_L_law_181 : decode code 181 = .ok (.invokevirtual 27, 3) := by decide +kernel
theorem d_L_law_184 : decode code 184 = .ok (.if_icmp .eq 275, 3) := by decide +kernel
theorem d_L_law_187 : decode code 187 = .ok (.iconst 0, 1) := by decide +kernel
theorem d_L_law_188 : decode code 188 = .ok (.ireturn, 1) := by decide +kernel
theorem d_L_law_189 : decode code 189 = .ok (.aload_n 1, 1) := by decide +kernel
theorem d_L_law_190 : decode code 190 = .ok (.aload_n 0, 1) := by decide +kernel
theorem d_L_law_191 : decode code 191 = .ok (.iload_n 3, 1) := by decide +kernel
theorem d_L_law_192 : decode code 192 = .ok (.iconst 1, 1) := by decide +kernel
theorem d_L_law_193 : decode code 193 = .ok (.iadd, 1) := by decide +kernel
theorem d_L_law_194 : decode code 194 = .ok (.iaload, 1) := by decide +kernel
theorem d_L_law_195 : decode code 195 = .ok (.invokevirtual 28, 3) := by decide +kernel
theorem d_L_law_198 : decode code 198 = .ok (.aload_n 2, 1) := by decide +kernel
theorem d_L_law_199 : decode code 199 = .ok (.aload_n 0, 1) := by decide +kernel
theorem d_L_law_200 : decode code 200 = .ok (.iload_n 3, 1) := by decide +kernel
theorem d_L_law_201 : decode code 201 = .ok (.iconst 1, 1) := by decide +kernel
theorem d_L_law_202 : decode code 202 = .ok (.iadd, 1) := by decide +kernel
theorem d_L_law_203 : decode code 203 = .ok (.iaload, 1) := by decide +kernel
theorem d_L_law_204 : decode code 204 = .ok (.invokevirtual 32, 3) := by decide +kernel
theorem d_L_law_207 : decode code 207 = .ok (.if_icmp .eq 252, 3) := by decide +kernel
theorem d_L_law_210 : decode code 210 = .ok (.iconst 0, 1) := by decide +kernel
theorem d_L_law_211 : decode code 211 = .ok (.ireturn, 1) := by decide +kernel
theorem d_L_law_212 : decode code 212 = .ok (.aload_n 1, 1) := by decide +kernel
theorem d_L_law_213 : decode code 213 = .ok (.aload_n 0, 1) := by decide +kernel
theorem d_L_law_214 : decode code 214 = .ok (.iload_n 3, 1) := by decide +kernel
theorem d_L_law_215 : decode code 215 = .ok (.iconst 1, 1) := by decide +kernel
theorem d_L_law_216 : decode code 216 = .ok (.iadd, 1) := by decide +kernel
theorem d_L_law_217 : decode code 217 = .ok (.iaload, 1) := by decide +kernel
theorem d_L_law_218 : decode code 218 = .ok (.aload_n 0, 1) := by decide +kernel
theorem d_L_law_219 : decode code 219 = .ok (.iload_n 3, 1) := by decide +kernel
theorem d_L_law_220 : decode code 220 = .ok (.iconst 2, 1) := by decide +kernel
theorem d_L_law_221 : decode code 221 = .ok (.iadd, 1) := by decide +kernel
theorem d_L_law_222 : decode code 222 = .ok (.iaload, 1) := by decide +kernel
theorem d_L_law_223 : decode code 223 = .ok (.invokevirtual 33, 3) := by decide +kernel
theorem d_L_law_226 : decode code 226 = .ok (.aload_n 2, 1) := by decide +kernel
theorem d_L_law_227 : decode code 227 = .ok (.aload_n 0, 1) := by decide +kernel
theorem d_L_law_228 : decode code 228 = .ok (.iload_n 3, 1) := by decide +kernel
theorem d_L_law_229 : decode code 229 = .ok (.iconst 1, 1) := by decide +kernel
theorem d_L_law_230 : decode code 230 = .ok (.iadd, 1) := by decide +kernel
theorem d_L_law_231 : decode code 231 = .ok (.iaload, 1) := by decide +kernel
theorem d_L_law_232 : decode code 232 = .ok (.aload_n 0, 1) := by decide +kernel
theorem d_L_law_233 : decode code 233 = .ok (.iload_n 3, 1) := by decide +kernel
theorem d_L_law_234 : decode code 234 = .ok (.iconst 2, 1) := by decide +kernel
theorem d_L_law_235 : decode code 235 = .ok (.iadd, 1) := by decide +kernel
theorem d_L_law_236 : decode code 236 = .ok (.iaload, 1) := by decide +kernel
theorem d_L_law_237 : decode code 237 = .ok (.invokevirtual 36, 3) := by decide +kernel
theorem d_L_law_240 : decode code 240 = .ok (.if_icmp .eq 219, 3) := by decide +kernel
theorem d_L_law_243 : decode code 243 = .ok (.iconst 0, 1) := by decide +kernel
theorem d_L_law_244 : decode code 244 = .ok (.ireturn, 1) := by decide +kernel
theorem d_L_law_245 : decode code 245 = .ok (.aload_n 1, 1) := by decide +kernel
theorem d_L_law_246 : decode code 246 = .ok (.aload_n 0, 1) := by decide +kernel
theorem d_L_law_247 : decode code 247 = .ok (.iload_n 3, 1) := by decide +kernel
theorem d_L_law_248 : decode code 248 = .ok (.iconst 1, 1) := by decide +kernel
theorem d_L_law_249 : decode code 249 = .ok (.iadd, 1) := by decide +kernel
theorem d_L_law_250 : decode code 250 = .ok (.iaload, 1) := by decide +kernel
theorem d_L_law_251 : decode code 251 = .ok (.invokevirtual 37, 3) := by decide +kernel
theorem d_L_law_254 : decode code 254 = .ok (.aload_n 2, 1) := by decide +kernel
theorem d_L_law_255 : decode code 255 = .ok (.aload_n 0, 1) := by decide +kernel
theorem d_L_law_256 : decode code 256 = .ok (.iload_n 3, 1) := by decide +kernel
theorem d_L_law_257 : decode code 257 = .ok (.iconst 1, 1) := by decide +kernel
theorem d_L_law_258 : decode code 258 = .ok (.iadd, 1) := by decide +kernel
theorem d_L_law_259 : decode code 259 = .ok (.iaload, 1) := by decide +kernel
theorem d_L_law_260 : decode code 260 = .ok (.invokevirtual 41, 3) := by decide +kernel
theorem d_L_law_263 : decode code 263 = .ok (.if_icmp .eq 196, 3) := by decide +kernel
theorem d_L_law_266 : decode code 266 = .ok (.iconst 0, 1) := by decide +kernel
theorem d_L_law_267 : decode code 267 = .ok (.ireturn, 1) := by decide +kernel
theorem d_L_law_268 : decode code 268 = .ok (.aload_n 1, 1) := by decide +kernel
theorem d_L_law_269 : decode code 269 = .ok (.aload_n 0, 1) := by decide +kernel
theorem d_L_law_270 : decode code 270 = .ok (.iload_n 3, 1) := by decide +kernel
theorem d_L_law_271 : decode code 271 = .ok (.iconst 1, 1) := by decide +kernel
theorem d_L_law_272 : decode code 272 = .ok (.iadd, 1) := by decide +kernel
theorem d_L_law_273 : decode code 273 = .ok (.iaload, 1) := by decide +kernel
theorem d_L_law_274 : decode code 274 = .ok (.invokevirtual 42, 3) := by decide +kernel
theorem d_L_law_277 : decode code 277 = .ok (.aload_n 2, 1) := by decide +kernel
theorem d_L_law_278 : decode code 278 = .ok (.aload_n 0, 1) := by decide +kernel
theorem d_L_law_279 : decode code 279 = .ok (.iload_n 3, 1) := by decide +kernel
theorem d_L_law_280 : decode code 280 = .ok (.iconst 1, 1) := by decide +kernel
theorem d_L_law_281 : decode code 281 = .ok (.iadd, 1) := by decide +kernel
theorem d_L_law_282 : decode code 282 = .ok (.iaload, 1) := by decide +kernel
theorem d_L_law_283 : decode code 283 = .ok (.invokevirtual 45, 3) := by decide +kernel
theorem d_L_law_286 : decode code 286 = .ok (.if_icmp .eq 173, 3) := by decide +kernel
theorem d_L_law_289 : decode code 289 = .ok (.iconst 0, 1) := by decide +kernel
theorem d_L_law_290 : decode code 290 = .ok (.ireturn, 1) := by decide +kernel
theorem d_L_law_291 : decode code 291 = .ok (.aload_n 1, 1) := by decide +kernel
theorem d_L_law_292 : decode code 292 = .ok (.aload_n 0, 1) := by decide +kernel
theorem d_L_law_293 : decode code 293 = .ok (.iload_n 3, 1) := by decide +kernel
theorem d_L_law_294 : decode code 294 = .ok (.iconst 1, 1) := by decide +kernel
theorem d_L_law_295 : decode code 295 = .ok (.iadd, 1) := by decide +kernel
theorem d_L_law_296 : decode code 296 = .ok (.iaload, 1) := by decide +kernel
theorem d_L_law_297 : decode code 297 = .ok (.invokevirtual 46, 3) := by decide +kernel
theorem d_L_law_300 : decode code 300 = .ok (.aload_n 2, 1) := by decide +kernel
theorem d_L_law_301 : decode code 301 = .ok (.aload_n 0, 1) := by decide +kernel
theorem d_L_law_302 : decode code 302 = .ok (.iload_n 3, 1) := by decide +kernel
theorem d_L_law_303 : decode code 303 = .ok (.iconst 1, 1) := by decide +kernel
theorem d_L_law_304 : decode code 304 = .ok (.iadd, 1) := by decide +kernel
theorem d_L_law_305 : decode code 305 = .ok (.iaload, 1) := by decide +kernel
theorem d_L_law_306 : decode code 306 = .ok (.invokevirtual 49, 3) := by decide +kernel
theorem d_L_law_309 : decode code 309 = .ok (.if_icmp .eq 150, 3) := by decide +kernel
theorem d_L_law_312 : decode code 312 = .ok (.iconst 0, 1) := by decide +kernel
theorem d_L_law_313 : decode code 313 = .ok (.ireturn, 1) := by decide +kernel
theorem d_L_law_314 : decode code 314 = .ok (.aload_n 1, 1) := by decide +kernel
theorem d_L_law_315 : decode code 315 = .ok (.aload_n 0, 1) := by decide +kernel
theorem d_L_law_316 : decode code 316 = .ok (.iload_n 3, 1) := by decide +kernel
theorem d_L_law_317 : decode code 317 = .ok (.iconst 1, 1) := by decide +kernel
theorem d_L_law_318 : decode code 318 = .ok (.iadd, 1) := by decide +kernel
theorem d_L_law_319 : decode code 319 = .ok (.iaload, 1) := by decide +kernel
theorem d_L_law_320 : decode code 320 = .ok (.invokevirtual 50, 3) := by decide +kernel
theorem d_L_law_323 : decode code 323 = .ok (.aload_n 2, 1) := by decide +kernel
theorem d_L_law_324 : decode code 324 = .ok (.aload_n 0, 1) := by decide +kernel
theorem d_L_law_325 : decode code 325 = .ok (.iload_n 3, 1) := by decide +kernel
theorem d_L_law_326 : decode code 326 = .ok (.iconst 1, 1) := by decide +kernel
theorem d_L_law_327 : decode code 327 = .ok (.iadd, 1) := by decide +kernel
theorem d_L_law_328 : decode code 328 = .ok (.iaload, 1) := by decide +kernel
theorem d_L_law_329 : decode code 329 = .ok (.invokevirtual 53, 3) := by decide +kernel
theorem d_L_law_332 : decode code 332 = .ok (.if_icmp .eq 127, 3) := by decide +kernel
theorem d_L_law_335 : decode code 335 = .ok (.iconst 0, 1) := by decide +kernel
theorem d_L_law_336 : decode code 336 = .ok (.ireturn, 1) := by decide +kernel
theorem d_L_law_337 : decode code 337 = .ok (.aload_n 1, 1) := by decide +kernel
theorem d_L_law_338 : decode code 338 = .ok (.aload_n 0, 1) := by decide +kernel
theorem d_L_law_339 : decode code 339 = .ok (.iload_n 3, 1) := by decide +kernel
theorem d_L_law_340 : decode code 340 = .ok (.iconst 1, 1) := by decide +kernel
theorem d_L_law_341 : decode code 341 = .ok (.iadd, 1) := by decide +kernel
theorem d_L_law_342 : decode code 342 = .ok (.iaload, 1) := by decide +kernel
theorem d_L_law_343 : decode code 343 = .ok (.aload_n 0, 1) := by decide +kernel
theorem d_L_law_344 : decode code 344 = .ok (.iload_n 3, 1) := by decide +kernel
theorem d_L_law_345 : decode code 345 = .ok (.iconst 2, 1) := by decide +kernel
theorem d_L_law_346 : decode code 346 = .ok (.iadd, 1) := by decide +kernel
theorem d_L_law_347 : decode code 347 = .ok (.iaload, 1) := by decide +kernel
theorem d_L_law_348 : decode code 348 = .ok (.invokevirtual 54, 3) := by decide +kernel
theorem d_L_law_351 : decode code 351 = .ok (.aload_n 2, 1) := by decide +kernel
theorem d_L_law_352 : decode code 352 = .ok (.aload_n 0, 1) := by decide +kernel
theorem d_L_law_353 : decode code 353 = .ok (.iload_n 3, 1) := by decide +kernel
theorem d_L_law_354 : decode code 354 = .ok (.iconst 1, 1) := by decide +kernel
theorem d_L_law_355 : decode code 355 = .ok (.iadd, 1) := by decide +kernel
theorem d_L_law_356 : decode code 356 = .ok (.iaload, 1) := by decide +kernel
theorem d_L_law_357 : decode code 357 = .ok (.aload_n 0, 1) := by decide +kernel
theorem d_L_law_358 : decode code 358 = .ok (.iload_n 3, 1) := by decide +kernel
theorem d_L_law_359 : decode code 359 = .ok (.iconst 2, 1) := by decide +kernel
theorem d_L_law_360 : decode code 360 = .ok (.iadd, 1) := by decide +kernel
theorem d_L_law_361 : decode code 361 = .ok (.iaload, 1) := by decide +kernel
theorem d_L_law_362 : decode code 362 = .ok (.invokevirtual 57, 3) := by decide +kernel
theorem d_L_law_365 : decode code 365 = .ok (.if_icmp .eq 94, 3) := by decide +kernel
theorem d_L_law_368 : decode code 368 = .ok (.iconst 0, 1) := by decide +kernel
theorem d_L_law_369 : decode code 369 = .ok (.ireturn, 1) := by decide +kernel
theorem d_L_law_370 : decode code 370 = .ok (.aload_n 1, 1) := by decide +kernel
theorem d_L_law_371 : decode code 371 = .ok (.aload_n 0, 1) := by decide +kernel
theorem d_L_law_372 : decode code 372 = .ok (.iload_n 3, 1) := by decide +kernel
theorem d_L_law_373 : decode code 373 = .ok (.iconst 1, 1) := by decide +kernel
theorem d_L_law_374 : decode code 374 = .ok (.iadd, 1) := by decide +kernel
theorem d_L_law_375 : decode code 375 = .ok (.iaload, 1) := by decide +kernel
theorem d_L_law_376 : decode code 376 = .ok (.aload_n 0, 1) := by decide +kernel
theorem d_L_law_377 : decode code 377 = .ok (.iload_n 3, 1) := by decide +kernel
theorem d_L_law_378 : decode code 378 = .ok (.iconst 2, 1) := by decide +kernel
theorem d_L_law_379 : decode code 379 = .ok (.iadd, 1) := by decide +kernel
theorem d_L_law_380 : decode code 380 = .ok (.iaload, 1) := by decide +kernel
theorem d_L_law_381 : decode code 381 = .ok (.aload_n 0, 1) := by decide +kernel
theorem d_L_law_382 : decode code 382 = .ok (.iload_n 3, 1) := by decide +kernel
theorem d_L_law_383 : decode code 383 = .ok (.iconst 3, 1) := by decide +kernel
theorem d_L_law_384 : decode code 384 = .ok (.iadd, 1) := by decide +kernel
theorem d_L_law_385 : decode code 385 = .ok (.iaload, 1) := by decide +kernel
theorem d_L_law_386 : decode code 386 = .ok (.invokevirtual 58, 3) := by decide +kernel
theorem d_L_law_389 : decode code 389 = .ok (.aload_n 2, 1) := by decide +kernel
theorem d_L_law_390 : decode code 390 = .ok (.aload_n 0, 1) := by decide +kernel
theorem d_L_law_391 : decode code 391 = .ok (.iload_n 3, 1) := by decide +kernel
theorem d_L_law_392 : decode code 392 = .ok (.iconst 1, 1) := by decide +kernel
theorem d_L_law_393 : decode code 393 = .ok (.iadd, 1) := by decide +kernel
theorem d_L_law_394 : decode code 394 = .ok (.iaload, 1) := by decide +kernel
theorem d_L_law_395 : decode code 395 = .ok (.aload_n 0, 1) := by decide +kernel
theorem d_L_law_396 : decode code 396 = .ok (.iload_n 3, 1) := by decide +kernel
theorem d_L_law_397 : decode code 397 = .ok (.iconst 2, 1) := by decide +kernel
theorem d_L_law_398 : decode code 398 = .ok (.iadd, 1) := by decide +kernel
theorem d_L_law_399 : decode code 399 = .ok (.iaload, 1) := by decide +kernel
theorem d_L_law_400 : decode code 400 = .ok (.aload_n 0, 1) := by decide +kernel
theorem d_L_law_401 : decode code 401 = .ok (.iload_n 3, 1) := by decide +kernel
theorem d_L_law_402 : decode code 402 = .ok (.iconst 3, 1) := by decide +kernel
theorem d_L_law_403 : decode code 403 = .ok (.iadd, 1) := by decide +kernel
theorem d_L_law_404 : decode code 404 = .ok (.iaload, 1) := by decide +kernel
theorem d_L_law_405 : decode code 405 = .ok (.invokevirtual 61, 3) := by decide +kernel
theorem d_L_law_408 : decode code 408 = .ok (.if_icmp .eq 51, 3) := by decide +kernel
theorem d_L_law_411 : decode code 411 = .ok (.iconst 0, 1) := by decide +kernel
theorem d_L_law_412 : decode code 412 = .ok (.ireturn, 1) := by decide +kernel
theorem d_L_law_413 : decode code 413 = .ok (.aload_n 1, 1) := by decide +kernel
theorem d_L_law_414 : decode code 414 = .ok (.aload_n 0, 1) := by decide +kernel
theorem d_L_law_415 : decode code 415 = .ok (.iload_n 3, 1) := by decide +kernel
theorem d_L_law_416 : decode code 416 = .ok (.iconst 1, 1) := by decide +kernel
theorem d_L_law_417 : decode code 417 = .ok (.iadd, 1) := by decide +kernel
theorem d_L_law_418 : decode code 418 = .ok (.iaload, 1) := by decide +kernel
theorem d_L_law_419 : decode code 419 = .ok (.aload_n 0, 1) := by decide +kernel
theorem d_L_law_420 : decode code 420 = .ok (.iload_n 3, 1) := by decide +kernel
theorem d_L_law_421 : decode code 421 = .ok (.iconst 2, 1) := by decide +kernel
theorem d_L_law_422 : decode code 422 = .ok (.iadd, 1) := by decide +kernel
theorem d_L_law_423 : decode code 423 = .ok (.iaload, 1) := by decide +kernel
theorem d_L_law_424 : decode code 424 = .ok (.invokevirtual 62, 3) := by decide +kernel
theorem d_L_law_427 : decode code 427 = .ok (.aload_n 2, 1) := by decide +kernel
theorem d_L_law_428 : decode code 428 = .ok (.aload_n 0, 1) := by decide +kernel
theorem d_L_law_429 : decode code 429 = .ok (.iload_n 3, 1) := by decide +kernel
theorem d_L_law_430 : decode code 430 = .ok (.iconst 1, 1) := by decide +kernel
theorem d_L_law_431 : decode code 431 = .ok (.iadd, 1) := by decide +kernel
theorem d_L_law_432 : decode code 432 = .ok (.iaload, 1) := by decide +kernel
theorem d_L_law_433 : decode code 433 = .ok (.aload_n 0, 1) := by decide +kernel
theorem d_L_law_434 : decode code 434 = .ok (.iload_n 3, 1) := by decide +kernel
theorem d_L_law_435 : decode code 435 = .ok (.iconst 2, 1) := by decide +kernel
theorem d_L_law_436 : decode code 436 = .ok (.iadd, 1) := by decide +kernel
theorem d_L_law_437 : decode code 437 = .ok (.iaload, 1) := by decide +kernel
theorem d_L_law_438 : decode code 438 = .ok (.invokevirtual 65, 3) := by decide +kernel
theorem d_L_law_441 : decode code 441 = .ok (.if_icmp .eq 18, 3) := by decide +kernel
theorem d_L_law_444 : decode code 444 = .ok (.iconst 0, 1) := by decide +kernel
theorem d_L_law_445 : decode code 445 = .ok (.ireturn, 1) := by decide +kernel
theorem d_L_law_446 : decode code 446 = .ok (.aload_n 1, 1) := by decide +kernel
theorem d_L_law_447 : decode code 447 = .ok (.invokevirtual 66, 3) := by decide +kernel
theorem d_L_law_450 : decode code 450 = .ok (.aload_n 2, 1) := by decide +kernel
theorem d_L_law_451 : decode code 451 = .ok (.invokevirtual 69, 3) := by decide +kernel
theorem d_L_law_454 : decode code 454 = .ok (.if_icmp .eq 5, 3) := by decide +kernel
theorem d_L_law_457 : decode code 457 = .ok (.iconst 0, 1) := by decide +kernel
theorem d_L_law_458 : decode code 458 = .ok (.ireturn, 1) := by decide +kernel
theorem d_L_law_459 : decode code 459 = .ok (.iinc 3 4, 3) := by decide +kernel
theorem d_L_law_462 : decode code 462 = .ok (.goto (-444), 3) := by decide +kernel
theorem d_L_law_465 : decode code 465 = .ok (.iconst 1, 1) := by decide +kernel
theorem d_L_law_466 : decode code 466 = .ok (.ireturn, 1) := by decide +kernel
end
section
/-! ===== small numbers, calls as the walks use them ===== -/
theorem n_lt {x y : Int32} : x < y ↔ x.toInt < y.toInt := Int32.lt_iff_toInt_lt
theorem n_le {x y : Int32} : x ≤ y ↔ x.toInt ≤ y.toInt := Int32.le_iff_toInt_le
theorem n_eq {x y : Int32} : x = y ↔ x.toInt = y.toInt := Int32.toInt_inj.symm
theorem n_rng (x : Int32) : -2147483648 ≤ x.toInt ∧ x.toInt ≤ 2147483647 := by
  have h1 := Int32.le_toInt x
  have h2 := Int32.toInt_lt x
  omega
theorem n_add {x y : Int32} (h : -2147483648 ≤ x.toInt + y.toInt) (h2 : x.toInt + y.toInt ≤ 2147483647) : (x + y).toInt = x.toInt + y.toInt := by
  rw [Int32.toInt_add, Int.bmod_def]
  omega
theorem n_sub {x y : Int32} (h : -2147483648 ≤ x.toInt - y.toInt) (h2 : x.toInt - y.toInt ≤ 2147483647) : (x - y).toInt = x.toInt - y.toInt := by
  rw [Int32.toInt_sub, Int.bmod_def]
  omega
theorem n_mul {x y : Int32} (h : -2147483648 ≤ x.toInt * y.toInt) (h2 : x.toInt * y.toInt ≤ 2147483647) : (x * y).toInt = x.toInt * y.toInt := by
  rw [Int32.toInt_mul, Int.bmod_def]
  omega
theorem n_0 : (0 : Int32).toInt = 0 := by decide
theorem n_1 : (1 : Int32).toInt = 1 := by decide
theorem n_2 : (2 : Int32).toInt = 2 := by decide
theorem n_3 : (3 : Int32).toInt = 3 := by decide
theorem n_4 : (4 : Int32).toInt = 4 := by decide
theorem n_5 : (5 : Int32).toInt = 5 := by decide
theorem n_6 : (6 : Int32).toInt = 6 := by decide
theorem n_7 : (7 : Int32).toInt = 7 := by decide
theorem n_8 : (8 : Int32).toInt = 8 := by decide
theorem n_9 : (9 : Int32).toInt = 9 := by decide
theorem n_15 : (15 : Int32).toInt = 15 := by decide
theorem n_16 : (16 : Int32).toInt = 16 := by decide
theorem n_64 : (64 : Int32).toInt = 64 := by decide
theorem n_m1 : (-1 : Int32).toInt = -1 := by decide
theorem n_cl (x : Int32) : x.toNatClampNeg = x.toInt.toNat := rfl
theorem vi {x : Int32} {n : Nat} (h : 0 ≤ x.toInt ∧ x.toInt < n) : vp_in x n := vp_in_iff.mpr h
theorem iv {x : Int32} {n : Nat} (h : vp_in x n) : 0 ≤ x.toInt ∧ x.toInt < n := vp_in_iff.mp h
theorem vlt {x : Int32} {n : Nat} (h : vp_in x n) : x.toNatClampNeg < n := by
  have := iv h
  rw [n_cl]
  omega
section GO
variable {p : Program} {l : Launch} {e : Env} {R : Room} {s : State} {m : MethodId} {args : Array Value} {below : List Frame} {meth : Method} {c : Code} {H H0 : Heap} {locs : List Loc} {cells slots : Nat} {Q : State → Prop}
variable {cc : ByteArray} {pc nL : Nat} {ls : Array Slot} {rest st0 : List Value} {D : va_G} {A : Nat → Prop} {tys : List (ClassId × FieldType)} {ws : va_W} {own : String} {a : Array Value}
theorem goIf {S : Type} {x : Int32 × S} {wf : S → va_W} (I : In D A H0 ws H locs) (hr : va_Run p l e R s m args below meth c H locs cells slots 0 0 (F0 m pc ls st0) rest (va_Qi (fun r u => (r, u) = x) (Pst D A wf) A a) A)
    (kk : ∀ (H1 : Heap) (locs1 : List Loc), In D A H0 (wf x.2) H1 locs1 → W p l e R s m args below meth c H1 locs1 cells slots Q (F0 m (pc + 3) ls (.int x.1 :: rest))) : W p l e R s m args below meth c H locs cells slots Q (F0 m pc ls st0) :=
  goI I hr (fun r u H1 locs1 hw I1 => by subst hw; exact kk H1 locs1 I1)
theorem goIp {S : Type} {y : Int32} {w : S} {wf : S → va_W} (I : In D A H0 ws H locs) (hr : va_Run p l e R s m args below meth c H locs cells slots 0 0 (F0 m pc ls st0) rest (va_Qi (fun r u => (r, u) = (y, w)) (Pst D A wf) A a) A)
    (kk : ∀ (H1 : Heap) (locs1 : List Loc), In D A H0 (wf w) H1 locs1 → W p l e R s m args below meth c H1 locs1 cells slots Q (F0 m (pc + 3) ls (.int y :: rest))) : W p l e R s m args below meth c H locs cells slots Q (F0 m pc ls st0) :=
  goI I hr (fun r u H1 locs1 hw I1 => by cases hw; exact kk H1 locs1 I1)
theorem goVf {S : Type} {x : S} {wf : S → va_W} (I : In D A H0 ws H locs) (hr : va_Run p l e R s m args below meth c H locs cells slots 0 0 (F0 m pc ls st0) rest (va_Qv (fun u => u = x) (Pst D A wf) A a) A)
    (kk : ∀ (H1 : Heap) (locs1 : List Loc), In D A H0 (wf x) H1 locs1 → W p l e R s m args below meth c H1 locs1 cells slots Q (F0 m (pc + 3) ls rest)) : W p l e R s m args below meth c H locs cells slots Q (F0 m pc ls st0) :=
  goV I hr (fun u H1 locs1 hw I1 => by subst hw; exact kk H1 locs1 I1)
/-- a message by its id, or null -/
def lf (ad : Nat → Nat) (x : Option Nat × St) : Option Nat × St := (x.1.map (fun i => ad (11 + i)), x.2)
def lr (ad : Nat → Nat) (x : Nat × St) : Option Nat × St := (some (ad (11 + x.1)), x.2)
theorem goQc {ad : Nat → Nat} {x : Option Nat × St} {wf : St → va_W} (I : In D A H0 ws H locs) (hr : va_Run p l e R s m args below meth c H locs cells slots 0 0 (F0 m pc ls st0) rest (va_Qq (fun r u => (r, u) = lf ad x) (Pst D A wf) A a) A)
    (kn : x.1 = none → ∀ (H1 : Heap) (locs1 : List Loc), In D A H0 (wf x.2) H1 locs1 → W p l e R s m args below meth c H1 locs1 cells slots Q (F0 m (pc + 3) ls (.null :: rest)))
    (ks : ¬ x.1 = none → ∀ (H1 : Heap) (locs1 : List Loc), In D A H0 (wf x.2) H1 locs1 → W p l e R s m args below meth c H1 locs1 cells slots Q (F0 m (pc + 3) ls (.ref (ad (11 + x.1.getD 0)) :: rest))) : W p l e R s m args below meth c H locs cells slots Q (F0 m pc ls st0) :=
  goQ I hr (fun r u H1 locs1 hw I1 => by
    obtain ⟨o, w⟩ := x
    cases hw
    cases o with
    | none => exact kn rfl H1 locs1 I1
    | some i => exact ks (by simp) H1 locs1 I1)
theorem goQx {ad : Nat → Nat} {x : Option Nat × St} {wf : St → va_W} (I : In D A H0 ws H locs) (hr : va_Run p l e R s m args below meth c H locs cells slots 0 0 (F0 m pc ls st0) rest (va_Qq (fun r u => (r, u) = lf ad x) (Pst D A wf) A a) A)
    (kk : ∀ (v : Value), v.category = 1 → ∀ (H1 : Heap) (locs1 : List Loc), In D A H0 (wf x.2) H1 locs1 → W p l e R s m args below meth c H1 locs1 cells slots Q (F0 m (pc + 3) ls (v :: rest))) : W p l e R s m args below meth c H locs cells slots Q (F0 m pc ls st0) :=
  goQc I hr (fun _ H1 locs1 I1 => kk _ rfl H1 locs1 I1) (fun _ H1 locs1 I1 => kk _ rfl H1 locs1 I1)
theorem goRf {ad : Nat → Nat} {x : Nat × St} {wf : St → va_W} (I : In D A H0 ws H locs) (hr : va_Run p l e R s m args below meth c H locs cells slots 0 0 (F0 m pc ls st0) rest (va_Qq (fun r u => (r, u) = lr ad x) (Pst D A wf) A a) A)
    (kk : ∀ (H1 : Heap) (locs1 : List Loc), In D A H0 (wf x.2) H1 locs1 → W p l e R s m args below meth c H1 locs1 cells slots Q (F0 m (pc + 3) ls (.ref (ad (11 + x.1)) :: rest))) : W p l e R s m args below meth c H locs cells slots Q (F0 m pc ls st0) :=
  goQ I hr (fun r u H1 locs1 hw I1 => by
    cases hw
    exact kk H1 locs1 I1)
theorem rT {ca : Nat → ClassId} {ad : Nat → Nat} {σ : St} {y : MethodName} {bytes : ByteArray} {mL k idx n : Nat} {ret : Option FieldType} {Qc : Array Value → State → Outcome → State → Prop}
    (X : Cx p m c cc nL s args own D (tysT ca)) (I : In D A H0 (wT ca ad σ) H locs) (As : List Value)
    (hM : Met l y (Cond.code y bytes mL ret :: BASE) (rmK k) (va_Pc (.ref (ad 0) :: As) (Pre D (tysT ca) A (wT ca ad σ))) Qc 0 0 A)
    (kw : cV own idx R_T y bytes mL ret n) (hn : As.length = n) {lv : List (Nat × Value)} (hl : lv_has ls nL lv)
    (hst : st0 = As.reverse ++ .ref (ad 0) :: rest) (hrm : k + 1 ≤ R.frames ∧ 8 + (mL + 11) + 25 * k ≤ R.locals) (hroom : (rest.map fun v => v.category).sum ≤ 8) (hcs : cells ≤ R.cells ∧ slots ≤ R.slots) (hdg : decode cc pc = .ok (.invokevirtual idx, 3)) :
    va_Run p l e R s m args below meth c H locs cells slots 0 0 (F0 m pc ls st0) rest (Qc (Value.ref (ad 0) :: As).toArray) A :=
  runV (T := F_T) (N := 3) X I As hM kw 0 0 (mw_atE (by decide) rfl) rfl hn hl hst hrm hroom hcs hdg
theorem rN {ca : Nat → ClassId} {ad : Nat → Nat} {σ : St} {nn : Nat} (hnn : nn < 2) {y : MethodName} {bytes : ByteArray} {mL k idx n : Nat} {ret : Option FieldType} {Qc : Array Value → State → Outcome → State → Prop}
    (X : Cx p m c cc nL s args own D (tysT ca)) (I : In D A H0 (wT ca ad σ) H locs) (As : List Value)
    (hM : Met l y (Cond.code y bytes mL ret :: BASE) (rmK k) (va_Pc (.ref (ad (3 + nn)) :: As) (Pre D (tysT ca) A (wT ca ad σ))) Qc 0 0 A)
    (kw : cV own idx R_N y bytes mL ret n) (hn : As.length = n) {lv : List (Nat × Value)} (hl : lv_has ls nL lv)
    (hst : st0 = As.reverse ++ .ref (ad (3 + nn)) :: rest) (hrm : k + 1 ≤ R.frames ∧ 8 + (mL + 11) + 25 * k ≤ R.locals) (hroom : (rest.map fun v => v.category).sum ≤ 8) (hcs : cells ≤ R.cells ∧ slots ≤ R.slots) (hdg : decode cc pc = .ok (.invokevirtual idx, 3)) :
    va_Run p l e R s m args below meth c H locs cells slots 0 0 (F0 m pc ls st0) rest (Qc (Value.ref (ad (3 + nn)) :: As).toArray) A :=
  runV (T := F_N) (N := 10) X I As hM kw (3 + nn) 1 (mw_atE (by omega) (cT_n hnn)) rfl hn hl hst hrm hroom hcs hdg
theorem rD {ca : Nat → ClassId} {ad : Nat → Nat} {τ : Mt} {y : MethodName} {bytes : ByteArray} {mL k idx n : Nat} {ret : Option FieldType} {Qc : Array Value → State → Outcome → State → Prop}
    (X : Cx p m c cc nL s args own D (tysD ca)) (I : In D A H0 (wD ca ad τ) H locs) (As : List Value)
    (hM : Met l y (Cond.code y bytes mL ret :: BASE) (rmK k) (va_Pc (.ref (ad 0) :: As) (Pre D (tysD ca) A (wD ca ad τ))) Qc 0 0 A)
    (kw : cV own idx R_D y bytes mL ret n) (hn : As.length = n) {lv : List (Nat × Value)} (hl : lv_has ls nL lv)
    (hst : st0 = As.reverse ++ .ref (ad 0) :: rest) (hrm : k + 1 ≤ R.frames ∧ 8 + (mL + 11) + 25 * k ≤ R.locals) (hroom : (rest.map fun v => v.category).sum ≤ 8) (hcs : cells ≤ R.cells ∧ slots ≤ R.slots) (hdg : decode cc pc = .ok (.invokevirtual idx, 3)) :
    va_Run p l e R s m args below meth c H locs cells slots 0 0 (F0 m pc ls st0) rest (Qc (Value.ref (ad 0) :: As).toArray) A :=
  runV (T := F_D) (N := 13) X I As hM kw 0 3 (mw_atE (by decide) rfl) rfl hn hl hst hrm hroom hcs hdg
/-- Math.max, Math.min -/
theorem mxT {x y : Int32} (X : Cx p m c cc nL s args R_T D tys) {lv : List (Nat × Value)} (hl : lv_has ls nL lv) (hR : 1 ≤ R.frames ∧ (rest.map fun v => v.category).sum + 13 ≤ R.locals) (hcs : cells ≤ R.cells ∧ slots ≤ R.slots) (hdg : decode cc pc = .ok (.invokestatic 117, 3))
    (kk : W p l e R s m args below meth c H locs cells slots Q (F0 m (pc + 3) ls (.int (if x < y then y else x) :: rest))) : W p l e R s m args below meth c H locs cells slots Q (F0 m pc ls (.int y :: .int x :: rest)) :=
  va_mmax X.1.1 X.1.2.1 (X.1.2.2.1.trans hl.1.symm) X.1.2.2.2.1 (X.1.2.2.2.2 _ (mB 185 rfl rfl)) (X.1.2.2.2.2 _ (mB 186 rfl rfl)) (X.1.2.2.2.2 _ (mB 19 rfl rfl)) (X.1.2.2.2.2 _ (mB 187 rfl rfl)) hR.1 hR.2 hcs.1 hcs.2 hdg kk
theorem mnT {x y : Int32} (X : Cx p m c cc nL s args R_T D tys) {lv : List (Nat × Value)} (hl : lv_has ls nL lv) (hR : 1 ≤ R.frames ∧ (rest.map fun v => v.category).sum + 13 ≤ R.locals) (hcs : cells ≤ R.cells ∧ slots ≤ R.slots) (hdg : decode cc pc = .ok (.invokestatic 123, 3))
    (kk : W p l e R s m args below meth c H locs cells slots Q (F0 m (pc + 3) ls (.int (if y < x then y else x) :: rest))) : W p l e R s m args below meth c H locs cells slots Q (F0 m pc ls (.int y :: .int x :: rest)) :=
  va_mmin X.1.1 X.1.2.1 (X.1.2.2.1.trans hl.1.symm) X.1.2.2.2.1 (X.1.2.2.2.2 _ (mB 192 rfl rfl)) (X.1.2.2.2.2 _ (mB 193 rfl rfl)) (X.1.2.2.2.2 _ (mB 19 rfl rfl)) (X.1.2.2.2.2 _ (mB 194 rfl rfl)) hR.1 hR.2 hcs.1 hcs.2 hdg kk
end GO
end
section
/-! ===== call words; what TwinLog's methods need of the state ===== -/
/-- the shape that the walks need: size, the link's ids, the lengths -/
def Bz (σ : St) : Prop := (0 ≤ (zs σ).toInt ∧ (zs σ).toInt ≤ 16) ∧ ∀ i, i < 17 → lk σ i < 17
def Bs (σ : St) : Prop := Bz σ ∧ ∀ n, n < 2 → 0 ≤ (nf σ n 4).toInt ∧ (nf σ n 4).toInt ≤ 64
theorem Bz.z {σ : St} (h : Bz σ) : vp_in (zs σ) 17 := vi ⟨h.1.1, by have := h.1.2; omega⟩
theorem sw_out6 {x : Int32} (h0 : ¬ x = 0) (h1 : ¬ x = 1) (h2 : ¬ x = 2) (h3 : ¬ x = 3) (h4 : ¬ x = 4) (h5 : ¬ x = 5) (h6 : ¬ x = 6) : x.toInt < 0 ∨ 6 < x.toInt := by
  rw [n_eq, n_0] at h0
  rw [n_eq, n_1] at h1
  rw [n_eq, n_2] at h2
  rw [n_eq, n_3] at h3
  rw [n_eq, n_4] at h4
  rw [n_eq, n_5] at h5
  rw [n_eq, n_6] at h6
  omega
section EX
variable {l : Launch} {y : MethodName} {cc : ByteArray} {nL lv : Nat} {D : va_G} {A : Nat → Prop} {tys : List (ClassId × FieldType)} {ws : va_W} {S : Type} {wf : S → va_W} {av : List Value}
theorem enterIx {x : Int32 × S} (hy : plainName y.cls = true) (ha : (lg_sl av).length ≤ nL)
    (body : ∀ (Φ : Int32 × S → Prop), Φ x → ∀ (p : Program) (e : Env) (s : State) (m : MethodId) (args : Array Value) (below : List Frame) (meth : Method) (c : Code) (Q : State → Prop), Cx p m c cc nL s args y.cls D tys →
      (∀ (H : Heap) (locs : List Loc) (pc : Nat) (ls : Array Slot) (v : Int32) (u : S), In D A s.heap (wf u) H locs → Φ (v, u) → decode cc pc = .ok (.ireturn, 1) → W p l e (rmK lv) s m args below meth c H locs 0 0 Q (F0 m pc ls [.int v])) →
      In D A s.heap ws s.heap [] → ∀ ls : Array Slot, lv_has ls nL (lv_args 0 av) → W p l e (rmK lv) s m args below meth c s.heap [] 0 0 Q (F0 m 0 ls [])) :
    Met l y (Cond.code y cc nL (some .int) :: BASE) (rmK lv) (va_Pc av (Pre D tys A ws)) (va_Qi (fun r u => (r, u) = x) (Pst D A wf) A) 0 0 A :=
  enterI (Φ := fun q => q = x) hy ha (body (fun q => q = x) rfl)
theorem enterZx {x : Int32 × S} (hy : plainName y.cls = true) (ha : (lg_sl av).length ≤ nL)
    (body : ∀ (Φ : Int32 × S → Prop), Φ x → ∀ (p : Program) (e : Env) (s : State) (m : MethodId) (args : Array Value) (below : List Frame) (meth : Method) (c : Code) (Q : State → Prop), Cx p m c cc nL s args y.cls D tys →
      (∀ (H : Heap) (locs : List Loc) (pc : Nat) (ls : Array Slot) (v : Int32) (u : S), In D A s.heap (wf u) H locs → Φ (v, u) → decode cc pc = .ok (.ireturn, 1) → narrow .boolean (.int v) = .int v → W p l e (rmK lv) s m args below meth c H locs 0 0 Q (F0 m pc ls [.int v])) →
      In D A s.heap ws s.heap [] → ∀ ls : Array Slot, lv_has ls nL (lv_args 0 av) → W p l e (rmK lv) s m args below meth c s.heap [] 0 0 Q (F0 m 0 ls [])) :
    Met l y (Cond.code y cc nL (some .boolean) :: BASE) (rmK lv) (va_Pc av (Pre D tys A ws)) (va_Qi (fun r u => (r, u) = x) (Pst D A wf) A) 0 0 A :=
  enterZ (Φ := fun q => q = x) hy ha (body (fun q => q = x) rfl)
theorem enterVx {x : S} (hy : plainName y.cls = true) (ha : (lg_sl av).length ≤ nL)
    (body : ∀ (Φ : S → Prop), Φ x → ∀ (p : Program) (e : Env) (s : State) (m : MethodId) (args : Array Value) (below : List Frame) (meth : Method) (c : Code) (Q : State → Prop), Cx p m c cc nL s args y.cls D tys →
      (∀ (H : Heap) (locs : List Loc) (pc : Nat) (ls : Array Slot) (u : S), In D A s.heap (wf u) H locs → Φ u → decode cc pc = .ok (.return_, 1) → W p l e (rmK lv) s m args below meth c H locs 0 0 Q (F0 m pc ls [])) →
      In D A s.heap ws s.heap [] → ∀ ls : Array Slot, lv_has ls nL (lv_args 0 av) → W p l e (rmK lv) s m args below meth c s.heap [] 0 0 Q (F0 m 0 ls [])) :
    Met l y (Cond.code y cc nL none :: BASE) (rmK lv) (va_Pc av (Pre D tys A ws)) (va_Qv (fun u => u = x) (Pst D A wf) A) 0 0 A :=
  enterV (Φ := fun q => q = x) hy ha (body (fun q => q = x) rfl)
theorem enterQx {x : Option Nat × S} {n : String} (hy : plainName y.cls = true) (ha : (lg_sl av).length ≤ nL)
    (body : ∀ (Φ : Option Nat × S → Prop), Φ x → ∀ (p : Program) (e : Env) (s : State) (m : MethodId) (args : Array Value) (below : List Frame) (meth : Method) (c : Code) (Q : State → Prop), Cx p m c cc nL s args y.cls D tys →
      (∀ (H : Heap) (locs : List Loc) (pc : Nat) (ls : Array Slot) (v : Option Nat) (u : S), In D A s.heap (wf u) H locs → Φ (v, u) → decode cc pc = .ok (.areturn, 1) → W p l e (rmK lv) s m args below meth c H locs 0 0 Q (F0 m pc ls [va_rf v])) →
      In D A s.heap ws s.heap [] → ∀ ls : Array Slot, lv_has ls nL (lv_args 0 av) → W p l e (rmK lv) s m args below meth c s.heap [] 0 0 Q (F0 m 0 ls [])) :
    Met l y (Cond.code y cc nL (some (.object n)) :: BASE) (rmK lv) (va_Pc av (Pre D tys A ws)) (va_Qq (fun r u => (r, u) = x) (Pst D A wf) A) 0 0 A :=
  enterQ (Φ := fun q => q = x) hy ha (body (fun q => q = x) rfl)
end EX
theorem k_T_44 : cV R_T 44 R_T y_T_send b_T_send 5 (some (.object "TwinLog$Message")) 3 := ⟨mB 145 rfl rfl, mB 147 rfl rfl, mB 1 rfl rfl, mB 15 rfl rfl, mB 148 rfl rfl, by decide +kernel⟩
theorem k_T_48 : cV R_T 48 R_N y_N_termOf b_N_termOf 2 (some .int) 1 := ⟨mB 149 rfl rfl, mB 150 rfl rfl, mB 151 rfl rfl, mB 16 rfl rfl, mB 152 rfl rfl, by decide +kernel⟩
theorem k_T_78 : cS R_T 78 y_T_isNode b_T_isNode 1 (some .boolean) 1 := ⟨mB 126 rfl rfl, mB 127 rfl rfl, mB 15 rfl rfl, mB 128 rfl rfl, by decide +kernel⟩
theorem k_T_85 : cV R_T 85 R_N y_N_add b_N_add 4 (some .boolean) 3 := ⟨mB 129 rfl rfl, mB 130 rfl rfl, mB 131 rfl rfl, mB 16 rfl rfl, mB 132 rfl rfl, by decide +kernel⟩
theorem k_T_89 : cV R_T 89 R_T y_T_ship b_T_ship 5 none 2 := ⟨mB 141 rfl rfl, mB 143 rfl rfl, mB 0 rfl rfl, mB 15 rfl rfl, mB 144 rfl rfl, by decide +kernel⟩
theorem k_T_93 : cV R_T 93 R_T y_T_take b_T_take 4 (some (.object "TwinLog$Message")) 1 := ⟨mB 161 rfl rfl, mB 163 rfl rfl, mB 2 rfl rfl, mB 15 rfl rfl, mB 164 rfl rfl, by decide +kernel⟩
theorem k_T_97 : cV R_T 97 R_N y_N_becomes b_N_becomes 2 (some .boolean) 1 := ⟨mB 169 rfl rfl, mB 170 rfl rfl, mB 171 rfl rfl, mB 16 rfl rfl, mB 172 rfl rfl, by decide +kernel⟩
theorem k_T_100 : cV R_T 100 R_T y_T_shipped b_T_shipped 5 (some .int) 2 := ⟨mB 173 rfl rfl, mB 175 rfl rfl, mB 3 rfl rfl, mB 15 rfl rfl, mB 176 rfl rfl, by decide +kernel⟩
theorem k_T_104 : cV R_T 104 R_T y_T_acked b_T_acked 3 none 2 := ⟨mB 181 rfl rfl, mB 183 rfl rfl, mB 4 rfl rfl, mB 15 rfl rfl, mB 184 rfl rfl, by decide +kernel⟩
theorem k_T_108 : cV R_T 108 R_T y_T_wanted b_T_wanted 3 none 2 := ⟨mB 188 rfl rfl, mB 190 rfl rfl, mB 5 rfl rfl, mB 15 rfl rfl, mB 191 rfl rfl, by decide +kernel⟩
theorem k_T_111 : cV R_T 111 R_N y_N_cut b_N_cut 2 (some .boolean) 1 := ⟨mB 177 rfl rfl, mB 178 rfl rfl, mB 179 rfl rfl, mB 16 rfl rfl, mB 180 rfl rfl, by decide +kernel⟩
theorem k_T_129 : cV R_T 129 R_N y_N_goDown b_N_goDown 1 none 0 := ⟨mB 203 rfl rfl, mB 138 rfl rfl, mB 139 rfl rfl, mB 16 rfl rfl, mB 140 rfl rfl, by decide +kernel⟩
theorem k_D_47 : cV R_D 47 R_D y_D_writes b_D_writes 2 (some .boolean) 1 := ⟨mB 290 rfl rfl, mB 292 rfl rfl, mB 7 rfl rfl, mB 18 rfl rfl, mB 293 rfl rfl, by decide +kernel⟩
theorem k_D_54 : cS R_D 54 y_D_isNode b_D_isNode 1 (some .boolean) 1 := ⟨mB 283 rfl rfl, mB 284 rfl rfl, mB 18 rfl rfl, mB 285 rfl rfl, by decide +kernel⟩
theorem k_D_57 : cV R_D 57 R_D y_D_putBehind b_D_putBehind 6 (some .boolean) 4 := ⟨mB 286 rfl rfl, mB 288 rfl rfl, mB 6 rfl rfl, mB 18 rfl rfl, mB 289 rfl rfl, by decide +kernel⟩
theorem k_D_61 : cV R_D 61 R_D y_D_send b_D_send 6 none 3 := ⟨mB 294 rfl rfl, mB 296 rfl rfl, mB 8 rfl rfl, mB 18 rfl rfl, mB 297 rfl rfl, by decide +kernel⟩
theorem k_D_65 : cV R_D 65 R_D y_D_remove b_D_remove 3 none 1 := ⟨mB 306 rfl rfl, mB 308 rfl rfl, mB 9 rfl rfl, mB 18 rfl rfl, mB 309 rfl rfl, by decide +kernel⟩
theorem k_D_69 : cV R_D 69 R_D y_D_becomeTerm b_D_becomeTerm 3 (some .boolean) 2 := ⟨mB 310 rfl rfl, mB 312 rfl rfl, mB 10 rfl rfl, mB 18 rfl rfl, mB 313 rfl rfl, by decide +kernel⟩
theorem k_D_73 : cV R_D 73 R_D y_D_shipped b_D_shipped 4 none 2 := ⟨mB 314 rfl rfl, mB 316 rfl rfl, mB 11 rfl rfl, mB 18 rfl rfl, mB 317 rfl rfl, by decide +kernel⟩
theorem k_D_77 : cV R_D 77 R_D y_D_shipIfThere b_D_shipIfThere 3 none 2 := ⟨mB 322 rfl rfl, mB 324 rfl rfl, mB 13 rfl rfl, mB 18 rfl rfl, mB 325 rfl rfl, by decide +kernel⟩
theorem k_D_80 : cV R_D 80 R_D y_D_cutTo b_D_cutTo 3 (some .boolean) 2 := ⟨mB 318 rfl rfl, mB 320 rfl rfl, mB 12 rfl rfl, mB 18 rfl rfl, mB 321 rfl rfl, by decide +kernel⟩
theorem k_N_32 : cV R_N 32 R_N y_N_goDown b_N_goDown 1 none 0 := ⟨mB 137 rfl rfl, mB 138 rfl rfl, mB 139 rfl rfl, mB 16 rfl rfl, mB 140 rfl rfl, by decide +kernel⟩
theorem k_N_41 : cV R_N 41 R_N y_N_writes b_N_writes 1 (some .boolean) 0 := ⟨mB 133 rfl rfl, mB 134 rfl rfl, mB 135 rfl rfl, mB 16 rfl rfl, mB 136 rfl rfl, by decide +kernel⟩
end
section
def f_N_goDown (σ : St) (n : Nat) : St := (sn (sn (sn σ n 5 0) n 6 0) n 8 (-1))
set_option maxHeartbeats 4000000 in
set_option maxRecDepth 100000 in
theorem c_N_goDown (l : Launch) (D : va_G) (ca : Nat → ClassId) (ad : Nat → Nat) (A : Nat → Prop) (σ : St) (n : Nat) (hn : n < 2) : Met l y_N_goDown (Cond.code y_N_goDown b_N_goDown 1 none :: BASE) (rmK 0) (va_Pc [.ref (ad (3 + n))] (Pre D (tysT ca) A (wT ca ad σ))) (va_Qv (fun u => u = f_N_goDown σ n) (Pst D A (wT ca ad)) A) 0 0 A := by
  refine enterVx (by decide) (Nat.le_of_ble_eq_true rfl) ?_
  intro Φ hΦ p e s m args below meth c Q X hret I ls hl
  have hx := X.x
  have hb := X.b
  have hl : lv_has ls 1 [(0, .ref (ad (3 + n)))] := hl
  rw [f_N_goDown] at hΦ
  refine lv_aload_n hx hb d_N_goDown_0 rfl (lv_at hl 0 rfl) ?_
  refine lv_iconst (v := 0) hx hb d_N_goDown_1 (by decide) ?_
  refine oPutN 5 X I rfl hn rfl rfl d_N_goDown_2 (fun H locs I => ?_)
  refine lv_aload_n hx hb d_N_goDown_5 rfl (lv_at hl 0 rfl) ?_
  refine lv_iconst (v := 0) hx hb d_N_goDown_6 (by decide) ?_
  refine oPutN 6 X I rfl hn rfl rfl d_N_goDown_7 (fun H locs I => ?_)
  refine lv_aload_n hx hb d_N_goDown_10 rfl (lv_at hl 0 rfl) ?_
  refine lv_iconst (v := (-1)) hx hb d_N_goDown_11 (by decide) ?_
  refine oPutN 8 X I rfl hn rfl rfl d_N_goDown_12 (fun H locs I => ?_)
  exact hret _ _ _ _ _ I hΦ d_N_goDown_15
def f_N_writes (σ : St) (n : Nat) : Int32 × St := (if (nf σ n 8) = 0 then (0, (f_N_goDown σ n)) else (if (nf σ n 8) ≤ 0 then (1, (sn σ n 9 ((nf σ n 9) + 1))) else (1, (sn (sn σ n 8 ((nf σ n 8) - 1)) n 9 ((nf (sn σ n 8 ((nf σ n 8) - 1)) n 9) + 1)))))
set_option maxHeartbeats 4000000 in
set_option maxRecDepth 100000 in
theorem c_N_writes (l : Launch) (D : va_G) (ca : Nat → ClassId) (ad : Nat → Nat) (A : Nat → Prop) (σ : St) (n : Nat) (hn : n < 2) : Met l y_N_writes (Cond.code y_N_writes b_N_writes 1 (some .boolean) :: BASE) (rmK 1) (va_Pc [.ref (ad (3 + n))] (Pre D (tysT ca) A (wT ca ad σ))) (va_Qi (fun r u => (r, u) = f_N_writes σ n) (Pst D A (wT ca ad)) A) 0 0 A := by
  refine enterZx (by decide) (Nat.le_of_ble_eq_true rfl) ?_
  intro Φ hΦ p e s m args below meth c Q X hret I ls hl
  have hx := X.x
  have hb := X.b
  have hl : lv_has ls 1 [(0, .ref (ad (3 + n)))] := hl
  rw [f_N_writes] at hΦ
  refine lv_aload_n hx hb d_N_writes_0 rfl (lv_at hl 0 rfl) ?_
  refine oGetN 8 X I rfl hn d_N_writes_1 ?_
  refine lv_if_ne (tgt := 13) hx hb d_N_writes_4 (by decide) (fun c_4 => ?_) (fun c_4 => ?_)
  · rw [if_neg c_4] at hΦ
    refine lv_aload_n hx hb d_N_writes_13 rfl (lv_at hl 0 rfl) ?_
    refine oGetN 8 X I rfl hn d_N_writes_14 ?_
    refine lv_if_le (tgt := 30) hx hb d_N_writes_17 (by decide) (fun c_17 => ?_) (fun c_17 => ?_)
    · rw [if_pos c_17] at hΦ
      refine lv_aload_n hx hb d_N_writes_30 rfl (lv_at hl 0 rfl) ?_
      refine lv_dup hx hb d_N_writes_31 rfl ?_
      refine oGetN 9 X I rfl hn d_N_writes_32 ?_
      refine lv_iconst (v := 1) hx hb d_N_writes_35 (by decide) ?_
      refine lv_iadd hx hb d_N_writes_36 ?_
      refine oPutN 9 X I rfl hn rfl rfl d_N_writes_37 (fun H locs I => ?_)
      refine lv_iconst (v := 1) hx hb d_N_writes_40 (by decide) ?_
      exact hret _ _ _ _ _ _ I hΦ d_N_writes_41 rfl
    · rw [if_neg c_17] at hΦ
      refine lv_aload_n hx hb d_N_writes_20 rfl (lv_at hl 0 rfl) ?_
      refine lv_dup hx hb d_N_writes_21 rfl ?_
      refine oGetN 8 X I rfl hn d_N_writes_22 ?_
      refine lv_iconst (v := 1) hx hb d_N_writes_25 (by decide) ?_
      refine lv_isub hx hb d_N_writes_26 ?_
      refine oPutN 8 X I rfl hn rfl rfl d_N_writes_27 (fun H locs I => ?_)
      refine lv_aload_n hx hb d_N_writes_30 rfl (lv_at hl 0 rfl) ?_
      refine lv_dup hx hb d_N_writes_31 rfl ?_
      refine oGetN 9 X I rfl hn d_N_writes_32 ?_
      refine lv_iconst (v := 1) hx hb d_N_writes_35 (by decide) ?_
      refine lv_iadd hx hb d_N_writes_36 ?_
      refine oPutN 9 X I rfl hn rfl rfl d_N_writes_37 (fun H locs I => ?_)
      refine lv_iconst (v := 1) hx hb d_N_writes_40 (by decide) ?_
      exact hret _ _ _ _ _ _ I hΦ d_N_writes_41 rfl
  · rw [if_pos c_4] at hΦ
    refine lv_aload_n hx hb d_N_writes_7 rfl (lv_at hl 0 rfl) ?_
    refine goVf (wf := wT ca ad) I (rN hn X I [] (c_N_goDown l D ca ad A σ n hn) k_N_32 rfl hl rfl ⟨Nat.le_of_ble_eq_true rfl, Nat.le_of_ble_eq_true rfl⟩ (Nat.le_of_ble_eq_true rfl) ⟨Nat.le_refl 0, Nat.le_refl 0⟩ d_N_writes_8) (fun H locs I => ?_)
    refine lv_iconst (v := 0) hx hb d_N_writes_11 (by decide) ?_
    exact hret _ _ _ _ _ _ I hΦ d_N_writes_12 rfl
theorem wr_len {σ : St} {n q : Nat} : nf (f_N_writes σ n).2 q 4 = nf σ q 4 := by
  unfold f_N_writes f_N_goDown
  split
  · simp [nf, sn, up2]
  · split <;> simp [nf, sn, up2]
def f_N_add (σ : St) (n : Nat) (t : Int32) (k : Int32) (v : Int32) : Int32 × St := (if (f_N_writes σ n).1 = 0 then (0, (f_N_writes σ n).2) else (1, (sn (sa (sa (sa (f_N_writes σ n).2 (3 * n + 0) (nf (f_N_writes σ n).2 n 4).toNatClampNeg t) (3 * n + 1) (nf (sa (f_N_writes σ n).2 (3 * n + 0) (nf (f_N_writes σ n).2 n 4).toNatClampNeg t) n 4).toNatClampNeg k) (3 * n + 2) (nf (sa (sa (f_N_writes σ n).2 (3 * n + 0) (nf (f_N_writes σ n).2 n 4).toNatClampNeg t) (3 * n + 1) (nf (sa (f_N_writes σ n).2 (3 * n + 0) (nf (f_N_writes σ n).2 n 4).toNatClampNeg t) n 4).toNatClampNeg k) n 4).toNatClampNeg v) n 4 ((nf (sa (sa (sa (f_N_writes σ n).2 (3 * n + 0) (nf (f_N_writes σ n).2 n 4).toNatClampNeg t) (3 * n + 1) (nf (sa (f_N_writes σ n).2 (3 * n + 0) (nf (f_N_writes σ n).2 n 4).toNatClampNeg t) n 4).toNatClampNeg k) (3 * n + 2) (nf (sa (sa (f_N_writes σ n).2 (3 * n + 0) (nf (f_N_writes σ n).2 n 4).toNatClampNeg t) (3 * n + 1) (nf (sa (f_N_writes σ n).2 (3 * n + 0) (nf (f_N_writes σ n).2 n 4).toNatClampNeg t) n 4).toNatClampNeg k) n 4).toNatClampNeg v) n 4) + 1))))
set_option maxHeartbeats 4000000 in
set_option maxRecDepth 100000 in
theorem c_N_add (l : Launch) (D : va_G) (ca : Nat → ClassId) (ad : Nat → Nat) (A : Nat → Prop) (σ : St) (n : Nat) (t : Int32) (k : Int32) (v : Int32) (hn : n < 2) (hlen : vp_in (nf σ n 4) 64) : Met l y_N_add (Cond.code y_N_add b_N_add 4 (some .boolean) :: BASE) (rmK 2) (va_Pc [.ref (ad (3 + n)), .int t, .int k, .int v] (Pre D (tysT ca) A (wT ca ad σ))) (va_Qi (fun r u => (r, u) = f_N_add σ n t k v) (Pst D A (wT ca ad)) A) 0 0 A := by
  refine enterZx (by decide) (Nat.le_of_ble_eq_true rfl) ?_
  intro Φ hΦ p e s m args below meth c Q X hret I ls hl
  have hx := X.x
  have hb := X.b
  have hl : lv_has ls 4 [(0, .ref (ad (3 + n))), (1, .int t), (2, .int k), (3, .int v)] := hl
  rw [f_N_add] at hΦ
  refine lv_aload_n hx hb d_N_add_0 rfl (lv_at hl 0 rfl) ?_
  refine goIf (wf := wT ca ad) I (rN hn X I [] (c_N_writes l D ca ad A σ n hn) k_N_41 rfl hl rfl ⟨Nat.le_of_ble_eq_true rfl, Nat.le_of_ble_eq_true rfl⟩ (Nat.le_of_ble_eq_true rfl) ⟨Nat.le_refl 0, Nat.le_refl 0⟩ d_N_add_1) (fun H locs I => ?_)
  refine lv_if_ne (tgt := 9) hx hb d_N_add_4 (by decide) (fun c_4 => ?_) (fun c_4 => ?_)
  · rw [if_neg c_4] at hΦ
    have hq : vp_in (nf (f_N_writes σ n).2 n 4) 64 := by rw [wr_len]; exact hlen
    refine lv_aload_n hx hb d_N_add_9 rfl (lv_at hl 0 rfl) ?_
    refine oGetNA 0 X I (by decide) hn d_N_add_10 ?_
    refine lv_aload_n hx hb d_N_add_13 rfl (lv_at hl 0 rfl) ?_
    refine oGetN 4 X I rfl hn d_N_add_14 ?_
    refine lv_iload_n hx hb d_N_add_17 rfl (lv_at hl 1 rfl) ?_
    refine tAst X I (by have := hn; omega) hq d_N_add_18 (fun H locs I => ?_)
    refine lv_aload_n hx hb d_N_add_19 rfl (lv_at hl 0 rfl) ?_
    refine oGetNA 1 X I (by decide) hn d_N_add_20 ?_
    refine lv_aload_n hx hb d_N_add_23 rfl (lv_at hl 0 rfl) ?_
    refine oGetN 4 X I rfl hn d_N_add_24 ?_
    refine lv_iload_n hx hb d_N_add_27 rfl (lv_at hl 2 rfl) ?_
    refine tAst X I (by have := hn; omega) hq d_N_add_28 (fun H locs I => ?_)
    refine lv_aload_n hx hb d_N_add_29 rfl (lv_at hl 0 rfl) ?_
    refine oGetNA 2 X I (by decide) hn d_N_add_30 ?_
    refine lv_aload_n hx hb d_N_add_33 rfl (lv_at hl 0 rfl) ?_
    refine oGetN 4 X I rfl hn d_N_add_34 ?_
    refine lv_iload_n hx hb d_N_add_37 rfl (lv_at hl 3 rfl) ?_
    refine tAst X I (by have := hn; omega) hq d_N_add_38 (fun H locs I => ?_)
    refine lv_aload_n hx hb d_N_add_39 rfl (lv_at hl 0 rfl) ?_
    refine lv_dup hx hb d_N_add_40 rfl ?_
    refine oGetN 4 X I rfl hn d_N_add_41 ?_
    refine lv_iconst (v := 1) hx hb d_N_add_44 (by decide) ?_
    refine lv_iadd hx hb d_N_add_45 ?_
    refine oPutN 4 X I rfl hn rfl rfl d_N_add_46 (fun H locs I => ?_)
    refine lv_iconst (v := 1) hx hb d_N_add_49 (by decide) ?_
    exact hret _ _ _ _ _ _ I hΦ d_N_add_50 rfl
  · rw [if_pos c_4] at hΦ
    refine lv_iconst (v := 0) hx hb d_N_add_7 (by decide) ?_
    exact hret _ _ _ _ _ _ I hΦ d_N_add_8 rfl
def f_N_cut (σ : St) (n : Nat) (t : Int32) : Int32 × St := (if (f_N_writes σ n).1 = 0 then (0, (f_N_writes σ n).2) else (1, (sn (f_N_writes σ n).2 n 4 t)))
set_option maxHeartbeats 4000000 in
set_option maxRecDepth 100000 in
theorem c_N_cut (l : Launch) (D : va_G) (ca : Nat → ClassId) (ad : Nat → Nat) (A : Nat → Prop) (σ : St) (n : Nat) (t : Int32) (hn : n < 2) : Met l y_N_cut (Cond.code y_N_cut b_N_cut 2 (some .boolean) :: BASE) (rmK 2) (va_Pc [.ref (ad (3 + n)), .int t] (Pre D (tysT ca) A (wT ca ad σ))) (va_Qi (fun r u => (r, u) = f_N_cut σ n t) (Pst D A (wT ca ad)) A) 0 0 A := by
  refine enterZx (by decide) (Nat.le_of_ble_eq_true rfl) ?_
  intro Φ hΦ p e s m args below meth c Q X hret I ls hl
  have hx := X.x
  have hb := X.b
  have hl : lv_has ls 2 [(0, .ref (ad (3 + n))), (1, .int t)] := hl
  rw [f_N_cut] at hΦ
  refine lv_aload_n hx hb d_N_cut_0 rfl (lv_at hl 0 rfl) ?_
  refine goIf (wf := wT ca ad) I (rN hn X I [] (c_N_writes l D ca ad A σ n hn) k_N_41 rfl hl rfl ⟨Nat.le_of_ble_eq_true rfl, Nat.le_of_ble_eq_true rfl⟩ (Nat.le_of_ble_eq_true rfl) ⟨Nat.le_refl 0, Nat.le_refl 0⟩ d_N_cut_1) (fun H locs I => ?_)
  refine lv_if_ne (tgt := 9) hx hb d_N_cut_4 (by decide) (fun c_4 => ?_) (fun c_4 => ?_)
  · rw [if_neg c_4] at hΦ
    refine lv_aload_n hx hb d_N_cut_9 rfl (lv_at hl 0 rfl) ?_
    refine lv_iload_n hx hb d_N_cut_10 rfl (lv_at hl 1 rfl) ?_
    refine oPutN 4 X I rfl hn rfl rfl d_N_cut_11 (fun H locs I => ?_)
    refine lv_iconst (v := 1) hx hb d_N_cut_14 (by decide) ?_
    exact hret _ _ _ _ _ _ I hΦ d_N_cut_15 rfl
  · rw [if_pos c_4] at hΦ
    refine lv_iconst (v := 0) hx hb d_N_cut_7 (by decide) ?_
    exact hret _ _ _ _ _ _ I hΦ d_N_cut_8 rfl
def f_N_becomes (σ : St) (n : Nat) (t : Int32) : Int32 × St := (if (f_N_writes σ n).1 = 0 then (0, (f_N_writes σ n).2) else (1, (sn (sn (f_N_writes σ n).2 n 0 t) n 6 0)))
set_option maxHeartbeats 4000000 in
set_option maxRecDepth 100000 in
theorem c_N_becomes (l : Launch) (D : va_G) (ca : Nat → ClassId) (ad : Nat → Nat) (A : Nat → Prop) (σ : St) (n : Nat) (t : Int32) (hn : n < 2) : Met l y_N_becomes (Cond.code y_N_becomes b_N_becomes 2 (some .boolean) :: BASE) (rmK 2) (va_Pc [.ref (ad (3 + n)), .int t] (Pre D (tysT ca) A (wT ca ad σ))) (va_Qi (fun r u => (r, u) = f_N_becomes σ n t) (Pst D A (wT ca ad)) A) 0 0 A := by
  refine enterZx (by decide) (Nat.le_of_ble_eq_true rfl) ?_
  intro Φ hΦ p e s m args below meth c Q X hret I ls hl
  have hx := X.x
  have hb := X.b
  have hl : lv_has ls 2 [(0, .ref (ad (3 + n))), (1, .int t)] := hl
  rw [f_N_becomes] at hΦ
  refine lv_aload_n hx hb d_N_becomes_0 rfl (lv_at hl 0 rfl) ?_
  refine goIf (wf := wT ca ad) I (rN hn X I [] (c_N_writes l D ca ad A σ n hn) k_N_41 rfl hl rfl ⟨Nat.le_of_ble_eq_true rfl, Nat.le_of_ble_eq_true rfl⟩ (Nat.le_of_ble_eq_true rfl) ⟨Nat.le_refl 0, Nat.le_refl 0⟩ d_N_becomes_1) (fun H locs I => ?_)
  refine lv_if_ne (tgt := 9) hx hb d_N_becomes_4 (by decide) (fun c_4 => ?_) (fun c_4 => ?_)
  · rw [if_neg c_4] at hΦ
    refine lv_aload_n hx hb d_N_becomes_9 rfl (lv_at hl 0 rfl) ?_
    refine lv_iload_n hx hb d_N_becomes_10 rfl (lv_at hl 1 rfl) ?_
    refine oPutN 0 X I rfl hn rfl rfl d_N_becomes_11 (fun H locs I => ?_)
    refine lv_aload_n hx hb d_N_becomes_14 rfl (lv_at hl 0 rfl) ?_
    refine lv_iconst (v := 0) hx hb d_N_becomes_15 (by decide) ?_
    refine oPutN 6 X I rfl hn rfl rfl d_N_becomes_16 (fun H locs I => ?_)
    refine lv_iconst (v := 1) hx hb d_N_becomes_19 (by decide) ?_
    exact hret _ _ _ _ _ _ I hΦ d_N_becomes_20 rfl
  · rw [if_pos c_4] at hΦ
    refine lv_iconst (v := 0) hx hb d_N_becomes_7 (by decide) ?_
    exact hret _ _ _ _ _ _ I hΦ d_N_becomes_8 rfl
def f_N_termOf (σ : St) (n : Nat) (i : Int32) : Int32 := (if 0 ≤ i then (ar σ (3 * n + 0) i.toNatClampNeg) else 0)
set_option maxHeartbeats 4000000 in
set_option maxRecDepth 100000 in
theorem c_N_termOf (l : Launch) (D : va_G) (ca : Nat → ClassId) (ad : Nat → Nat) (A : Nat → Prop) (σ : St) (n : Nat) (i : Int32) (hn : n < 2) (hi : i.toInt < 64) : Met l y_N_termOf (Cond.code y_N_termOf b_N_termOf 2 (some .int) :: BASE) (rmK 0) (va_Pc [.ref (ad (3 + n)), .int i] (Pre D (tysT ca) A (wT ca ad σ))) (va_Qi (fun r u => (r, u) = (f_N_termOf σ n i, σ)) (Pst D A (wT ca ad)) A) 0 0 A := by
  refine enterIx (by decide) (Nat.le_of_ble_eq_true rfl) ?_
  intro Φ hΦ p e s m args below meth c Q X hret I ls hl
  have hx := X.x
  have hb := X.b
  have hl : lv_has ls 2 [(0, .ref (ad (3 + n))), (1, .int i)] := hl
  rw [f_N_termOf] at hΦ
  refine lv_iload_n hx hb d_N_termOf_0 rfl (lv_at hl 1 rfl) ?_
  refine lv_if_ge (tgt := 8) hx hb d_N_termOf_1 (by decide) (fun c_1 => ?_) (fun c_1 => ?_)
  · rw [if_pos c_1] at hΦ
    have hq : vp_in i 64 := vi ⟨by have := n_le.mp c_1; rw [n_0] at this; exact this, hi⟩
    refine lv_aload_n hx hb d_N_termOf_8 rfl (lv_at hl 0 rfl) ?_
    refine oGetNA 0 X I (by decide) hn d_N_termOf_9 ?_
    refine lv_iload_n hx hb d_N_termOf_12 rfl (lv_at hl 1 rfl) ?_
    refine tAld X I (by have := hn; omega) hq d_N_termOf_13 ?_
    exact hret _ _ _ _ _ _ I hΦ d_N_termOf_14
  · rw [if_neg c_1] at hΦ
    refine lv_iconst (v := 0) hx hb d_N_termOf_4 (by decide) ?_
    refine lv_goto (tgt := 14) hx hb d_N_termOf_5 (by decide) ?_
    exact hret _ _ _ _ _ _ I hΦ d_N_termOf_14
def f_T_isNode (σ : St) (a : Int32) : Int32 := (if a = 0 then 1 else (if a = 1 then 1 else 0))
set_option maxHeartbeats 4000000 in
set_option maxRecDepth 100000 in
theorem c_T_isNode (l : Launch) (D : va_G) (ca : Nat → ClassId) (ad : Nat → Nat) (A : Nat → Prop) (σ : St) (a : Int32) : Met l y_T_isNode (Cond.code y_T_isNode b_T_isNode 1 (some .boolean) :: BASE) (rmK 0) (va_Pc [.int a] (Pre D (tysT ca) A (wT ca ad σ))) (va_Qi (fun r u => (r, u) = (f_T_isNode σ a, σ)) (Pst D A (wT ca ad)) A) 0 0 A := by
  refine enterZx (by decide) (Nat.le_of_ble_eq_true rfl) ?_
  intro Φ hΦ p e s m args below meth c Q X hret I ls hl
  have hx := X.x
  have hb := X.b
  have hl : lv_has ls 1 [(0, .int a)] := hl
  rw [f_T_isNode] at hΦ
  refine lv_iload_n hx hb d_T_isNode_0 rfl (lv_at hl 0 rfl) ?_
  refine lv_if_eq (tgt := 9) hx hb d_T_isNode_1 (by decide) (fun c_1 => ?_) (fun c_1 => ?_)
  · rw [if_pos c_1] at hΦ
    refine lv_iconst (v := 1) hx hb d_T_isNode_9 (by decide) ?_
    refine lv_goto (tgt := 14) hx hb d_T_isNode_10 (by decide) ?_
    exact hret _ _ _ _ _ _ I hΦ d_T_isNode_14 rfl
  · rw [if_neg c_1] at hΦ
    refine lv_iload_n hx hb d_T_isNode_4 rfl (lv_at hl 0 rfl) ?_
    refine lv_iconst (v := 1) hx hb d_T_isNode_5 (by decide) ?_
    refine lv_icmp_ne (tgt := 13) hx hb d_T_isNode_6 (by decide) (fun c_6 => ?_) (fun c_6 => ?_)
    · rw [if_neg c_6] at hΦ
      refine lv_iconst (v := 0) hx hb d_T_isNode_13 (by decide) ?_
      exact hret _ _ _ _ _ _ I hΦ d_T_isNode_14 rfl
    · rw [if_pos c_6] at hΦ
      refine lv_iconst (v := 1) hx hb d_T_isNode_9 (by decide) ?_
      refine lv_goto (tgt := 14) hx hb d_T_isNode_10 (by decide) ?_
      exact hret _ _ _ _ _ _ I hΦ d_T_isNode_14 rfl
theorem isN_in {σ : St} {a : Int32} (h : ¬ f_T_isNode σ a = 0) : vp_in a 2 := by
  unfold f_T_isNode at h
  by_cases h0 : a = 0
  · subst h0; exact vi (by decide)
  · by_cases h1 : a = 1
    · subst h1; exact vi (by decide)
    · rw [if_neg h0, if_neg h1] at h; exact absurd rfl h
def f_T_send (σ : St) (a : Int32) (k : Int32) (v : Int32) : Option Nat × St := (if (zs σ) = 16 then (none, σ) else (some (lk σ (zs σ).toNatClampNeg), (sm (sm (sm (sm (sz σ ((zs σ) + 1)) (lk σ (zs σ).toNatClampNeg) 0 k) (lk σ (zs σ).toNatClampNeg) 1 (1 - a)) (lk σ (zs σ).toNatClampNeg) 2 (nf (sm (sm (sz σ ((zs σ) + 1)) (lk σ (zs σ).toNatClampNeg) 0 k) (lk σ (zs σ).toNatClampNeg) 1 (1 - a)) a.toNatClampNeg 0)) (lk σ (zs σ).toNatClampNeg) 3 v)))
set_option maxHeartbeats 4000000 in
set_option maxRecDepth 100000 in
theorem c_T_send (l : Launch) (D : va_G) (ca : Nat → ClassId) (ad : Nat → Nat) (A : Nat → Prop) (σ : St) (a : Int32) (k : Int32) (v : Int32) (hZ : Bz σ) (ha : vp_in a 2) : Met l y_T_send (Cond.code y_T_send b_T_send 5 (some (.object "TwinLog$Message")) :: BASE) (rmK 0) (va_Pc [.ref (ad 0), .int a, .int k, .int v] (Pre D (tysT ca) A (wT ca ad σ))) (va_Qq (fun r u => (r, u) = lf ad (f_T_send σ a k v)) (Pst D A (wT ca ad)) A) 0 0 A := by
  refine enterQx (by decide) (Nat.le_of_ble_eq_true rfl) ?_
  intro Φ hΦ p e s m args below meth c Q X hret I ls hl
  have hx := X.x
  have hb := X.b
  have hl : lv_has ls 5 [(0, .ref (ad 0)), (1, .int a), (2, .int k), (3, .int v)] := hl
  rw [f_T_send] at hΦ
  refine lv_aload_n hx hb d_T_send_0 rfl (lv_at hl 0 rfl) ?_
  refine tGetSize X I d_T_send_1 ?_
  refine lv_bipush (v := 16) hx hb d_T_send_4 (by decide) ?_
  refine lv_icmp_ne (tgt := 11) hx hb d_T_send_6 (by decide) (fun c_6 => ?_) (fun c_6 => ?_)
  · rw [if_neg c_6] at hΦ
    refine lv_aload_n hx hb d_T_send_11 rfl (lv_at hl 0 rfl) ?_
    refine tGetLink X I d_T_send_12 ?_
    refine lv_aload_n hx hb d_T_send_15 rfl (lv_at hl 0 rfl) ?_
    refine tGetSize X I d_T_send_16 ?_
    refine tLink X I hZ.z d_T_send_19 ?_
    refine lv_astore (lv' := [(4, .ref (ad (11 + (lk σ (zs σ).toNatClampNeg)))), (0, .ref (ad 0)), (1, .int a), (2, .int k), (3, .int v)]) hx hb d_T_send_20 hl (by decide) rfl (fun ls hl => ?_)
    refine lv_aload_n hx hb d_T_send_22 rfl (lv_at hl 1 rfl) ?_
    refine lv_dup hx hb d_T_send_23 rfl ?_
    refine tGetSize X I d_T_send_24 ?_
    refine lv_iconst (v := 1) hx hb d_T_send_27 (by decide) ?_
    refine lv_iadd hx hb d_T_send_28 ?_
    refine tPutSize X I d_T_send_29 (fun H locs I => ?_)
    refine lv_aload hx hb d_T_send_32 (lv_at hl 0 rfl) ?_
    refine lv_iload_n hx hb d_T_send_34 rfl (lv_at hl 3 rfl) ?_
    refine tPutG 0 X I (by decide) (hZ.2 _ (vlt hZ.z)) d_T_send_35 (fun H locs I => ?_)
    refine lv_aload hx hb d_T_send_38 (lv_at hl 0 rfl) ?_
    refine lv_iconst (v := 1) hx hb d_T_send_40 (by decide) ?_
    refine lv_iload_n hx hb d_T_send_41 rfl (lv_at hl 2 rfl) ?_
    refine lv_isub hx hb d_T_send_42 ?_
    refine tPutG 1 X I (by decide) (hZ.2 _ (vlt hZ.z)) d_T_send_43 (fun H locs I => ?_)
    refine lv_aload hx hb d_T_send_46 (lv_at hl 0 rfl) ?_
    refine lv_aload_n hx hb d_T_send_48 rfl (lv_at hl 1 rfl) ?_
    refine tGetNodes X I d_T_send_49 ?_
    refine lv_iload_n hx hb d_T_send_52 rfl (lv_at hl 2 rfl) ?_
    refine tNode X I ha d_T_send_53 ?_
    refine tGetN 0 X I rfl (vlt ha) d_T_send_54 ?_
    refine tPutG 2 X I (by decide) (hZ.2 _ (vlt hZ.z)) d_T_send_57 (fun H locs I => ?_)
    refine lv_aload hx hb d_T_send_60 (lv_at hl 0 rfl) ?_
    refine lv_iload_n hx hb d_T_send_62 rfl (lv_at hl 4 rfl) ?_
    refine tPutG 3 X I (by decide) (hZ.2 _ (vlt hZ.z)) d_T_send_63 (fun H locs I => ?_)
    refine lv_aload hx hb d_T_send_66 (lv_at hl 0 rfl) ?_
    exact hret _ _ _ _ (some (ad (11 + (lk σ (zs σ).toNatClampNeg)))) _ I hΦ d_T_send_68
  · rw [if_pos c_6] at hΦ
    refine lv_null hx hb d_T_send_9 ?_
    exact hret _ _ _ _ none _ I hΦ d_T_send_10
theorem send_id {σ : St} {a k v : Int32} (hZ : Bz σ) : (f_T_send σ a k v).1.getD 0 < 17 := by
  unfold f_T_send
  split
  · exact Nat.le_of_ble_eq_true rfl
  · exact hZ.2 _ (vlt hZ.z)
def f_T_ship (σ : St) (a : Int32) (i : Int32) : St := (if (f_T_send σ a 1 i).1 = none then (f_T_send σ a 1 i).2 else (sm (sm (sm (sm (sm (f_T_send σ a 1 i).2 ((f_T_send σ a 1 i).1.getD 0) 4 (f_N_termOf (f_T_send σ a 1 i).2 a.toNatClampNeg (i - 1))) ((f_T_send σ a 1 i).1.getD 0) 5 (nf (sm (f_T_send σ a 1 i).2 ((f_T_send σ a 1 i).1.getD 0) 4 (f_N_termOf (f_T_send σ a 1 i).2 a.toNatClampNeg (i - 1))) a.toNatClampNeg 4)) ((f_T_send σ a 1 i).1.getD 0) 6 (ar (sm (sm (f_T_send σ a 1 i).2 ((f_T_send σ a 1 i).1.getD 0) 4 (f_N_termOf (f_T_send σ a 1 i).2 a.toNatClampNeg (i - 1))) ((f_T_send σ a 1 i).1.getD 0) 5 (nf (sm (f_T_send σ a 1 i).2 ((f_T_send σ a 1 i).1.getD 0) 4 (f_N_termOf (f_T_send σ a 1 i).2 a.toNatClampNeg (i - 1))) a.toNatClampNeg 4)) (3 * a.toNatClampNeg + 0) i.toNatClampNeg)) ((f_T_send σ a 1 i).1.getD 0) 7 (ar (sm (sm (sm (f_T_send σ a 1 i).2 ((f_T_send σ a 1 i).1.getD 0) 4 (f_N_termOf (f_T_send σ a 1 i).2 a.toNatClampNeg (i - 1))) ((f_T_send σ a 1 i).1.getD 0) 5 (nf (sm (f_T_send σ a 1 i).2 ((f_T_send σ a 1 i).1.getD 0) 4 (f_N_termOf (f_T_send σ a 1 i).2 a.toNatClampNeg (i - 1))) a.toNatClampNeg 4)) ((f_T_send σ a 1 i).1.getD 0) 6 (ar (sm (sm (f_T_send σ a 1 i).2 ((f_T_send σ a 1 i).1.getD 0) 4 (f_N_termOf (f_T_send σ a 1 i).2 a.toNatClampNeg (i - 1))) ((f_T_send σ a 1 i).1.getD 0) 5 (nf (sm (f_T_send σ a 1 i).2 ((f_T_send σ a 1 i).1.getD 0) 4 (f_N_termOf (f_T_send σ a 1 i).2 a.toNatClampNeg (i - 1))) a.toNatClampNeg 4)) (3 * a.toNatClampNeg + 0) i.toNatClampNeg)) (3 * a.toNatClampNeg + 1) i.toNatClampNeg)) ((f_T_send σ a 1 i).1.getD 0) 8 (ar (sm (sm (sm (sm (f_T_send σ a 1 i).2 ((f_T_send σ a 1 i).1.getD 0) 4 (f_N_termOf (f_T_send σ a 1 i).2 a.toNatClampNeg (i - 1))) ((f_T_send σ a 1 i).1.getD 0) 5 (nf (sm (f_T_send σ a 1 i).2 ((f_T_send σ a 1 i).1.getD 0) 4 (f_N_termOf (f_T_send σ a 1 i).2 a.toNatClampNeg (i - 1))) a.toNatClampNeg 4)) ((f_T_send σ a 1 i).1.getD 0) 6 (ar (sm (sm (f_T_send σ a 1 i).2 ((f_T_send σ a 1 i).1.getD 0) 4 (f_N_termOf (f_T_send σ a 1 i).2 a.toNatClampNeg (i - 1))) ((f_T_send σ a 1 i).1.getD 0) 5 (nf (sm (f_T_send σ a 1 i).2 ((f_T_send σ a 1 i).1.getD 0) 4 (f_N_termOf (f_T_send σ a 1 i).2 a.toNatClampNeg (i - 1))) a.toNatClampNeg 4)) (3 * a.toNatClampNeg + 0) i.toNatClampNeg)) ((f_T_send σ a 1 i).1.getD 0) 7 (ar (sm (sm (sm (f_T_send σ a 1 i).2 ((f_T_send σ a 1 i).1.getD 0) 4 (f_N_termOf (f_T_send σ a 1 i).2 a.toNatClampNeg (i - 1))) ((f_T_send σ a 1 i).1.getD 0) 5 (nf (sm (f_T_send σ a 1 i).2 ((f_T_send σ a 1 i).1.getD 0) 4 (f_N_termOf (f_T_send σ a 1 i).2 a.toNatClampNeg (i - 1))) a.toNatClampNeg 4)) ((f_T_send σ a 1 i).1.getD 0) 6 (ar (sm (sm (f_T_send σ a 1 i).2 ((f_T_send σ a 1 i).1.getD 0) 4 (f_N_termOf (f_T_send σ a 1 i).2 a.toNatClampNeg (i - 1))) ((f_T_send σ a 1 i).1.getD 0) 5 (nf (sm (f_T_send σ a 1 i).2 ((f_T_send σ a 1 i).1.getD 0) 4 (f_N_termOf (f_T_send σ a 1 i).2 a.toNatClampNeg (i - 1))) a.toNatClampNeg 4)) (3 * a.toNatClampNeg + 0) i.toNatClampNeg)) (3 * a.toNatClampNeg + 1) i.toNatClampNeg)) (3 * a.toNatClampNeg + 2) i.toNatClampNeg)))
set_option maxHeartbeats 4000000 in
set_option maxRecDepth 100000 in
theorem c_T_ship (l : Launch) (D : va_G) (ca : Nat → ClassId) (ad : Nat → Nat) (A : Nat → Prop) (σ : St) (a : Int32) (i : Int32) (hZ : Bz σ) (ha : vp_in a 2) (hi : vp_in i 64) : Met l y_T_ship (Cond.code y_T_ship b_T_ship 5 none :: BASE) (rmK 1) (va_Pc [.ref (ad 0), .int a, .int i] (Pre D (tysT ca) A (wT ca ad σ))) (va_Qv (fun u => u = f_T_ship σ a i) (Pst D A (wT ca ad)) A) 0 0 A := by
  refine enterVx (by decide) (Nat.le_of_ble_eq_true rfl) ?_
  intro Φ hΦ p e s m args below meth c Q X hret I ls hl
  have hx := X.x
  have hb := X.b
  have hl : lv_has ls 5 [(0, .ref (ad 0)), (1, .int a), (2, .int i)] := hl
  have hi1 : (i - 1).toInt < 64 := by have h := iv hi; rw [n_sub (by rw [n_1]; omega) (by rw [n_1]; omega), n_1]; omega
  rw [f_T_ship] at hΦ
  refine lv_aload_n hx hb d_T_ship_0 rfl (lv_at hl 0 rfl) ?_
  refine lv_iload_n hx hb d_T_ship_1 rfl (lv_at hl 1 rfl) ?_
  refine lv_iconst (v := 1) hx hb d_T_ship_2 (by decide) ?_
  refine lv_iload_n hx hb d_T_ship_3 rfl (lv_at hl 2 rfl) ?_
  refine goQc (wf := wT ca ad) I (rT X I [.int a, .int 1, .int i] (c_T_send l D ca ad A σ a 1 i hZ ha) k_T_44 rfl hl rfl ⟨Nat.le_of_ble_eq_true rfl, Nat.le_of_ble_eq_true rfl⟩ (Nat.le_of_ble_eq_true rfl) ⟨Nat.le_refl 0, Nat.le_refl 0⟩ d_T_ship_4) (fun c_4 H locs I => ?_) (fun c_4 H locs I => ?_)
  · rw [if_pos c_4] at hΦ
    refine lv_astore_nN (lv' := [(3, .null), (0, .ref (ad 0)), (1, .int a), (2, .int i)]) hx hb d_T_ship_7 rfl hl (by decide) rfl (fun ls hl => ?_)
    refine lv_aload_nN hx hb d_T_ship_8 rfl (lv_at hl 0 rfl) ?_
    refine lv_ifnonnullN hx hb d_T_ship_9 ?_
    exact hret _ _ _ _ _ I hΦ d_T_ship_12
  · rw [if_neg c_4] at hΦ
    refine lv_astore_n (lv' := [(3, .ref (ad (11 + ((f_T_send σ a 1 i).1.getD 0)))), (0, .ref (ad 0)), (1, .int a), (2, .int i)]) hx hb d_T_ship_7 rfl hl (by decide) rfl (fun ls hl => ?_)
    refine lv_aload_n hx hb d_T_ship_8 rfl (lv_at hl 0 rfl) ?_
    refine lv_ifnonnull (tgt := 13) hx hb d_T_ship_9 (by decide) ?_
    refine lv_aload_n hx hb d_T_ship_13 rfl (lv_at hl 1 rfl) ?_
    refine tGetNodes X I d_T_ship_14 ?_
    refine lv_iload_n hx hb d_T_ship_17 rfl (lv_at hl 2 rfl) ?_
    refine tNode X I ha d_T_ship_18 ?_
    refine lv_astore (lv' := [(4, .ref (ad (3 + a.toNatClampNeg))), (3, .ref (ad (11 + ((f_T_send σ a 1 i).1.getD 0)))), (0, .ref (ad 0)), (1, .int a), (2, .int i)]) hx hb d_T_ship_19 hl (by decide) rfl (fun ls hl => ?_)
    refine lv_aload_n hx hb d_T_ship_21 rfl (lv_at hl 1 rfl) ?_
    refine lv_aload hx hb d_T_ship_22 (lv_at hl 0 rfl) ?_
    refine lv_iload_n hx hb d_T_ship_24 rfl (lv_at hl 4 rfl) ?_
    refine lv_iconst (v := 1) hx hb d_T_ship_25 (by decide) ?_
    refine lv_isub hx hb d_T_ship_26 ?_
    refine goIp (wf := wT ca ad) (w := (f_T_send σ a 1 i).2) I (rN (vlt ha) X I [.int (i - 1)] (c_N_termOf l D ca ad A (f_T_send σ a 1 i).2 a.toNatClampNeg (i - 1) (vlt ha) hi1) k_T_48 rfl hl rfl ⟨Nat.le_of_ble_eq_true rfl, Nat.le_of_ble_eq_true rfl⟩ (Nat.le_of_ble_eq_true rfl) ⟨Nat.le_refl 0, Nat.le_refl 0⟩ d_T_ship_27) (fun H locs I => ?_)
    refine tPutG 4 X I (by decide) (send_id hZ) d_T_ship_30 (fun H locs I => ?_)
    refine lv_aload_n hx hb d_T_ship_33 rfl (lv_at hl 1 rfl) ?_
    refine lv_aload hx hb d_T_ship_34 (lv_at hl 0 rfl) ?_
    refine tGetN 4 X I rfl (vlt ha) d_T_ship_36 ?_
    refine tPutG 5 X I (by decide) (send_id hZ) d_T_ship_39 (fun H locs I => ?_)
    refine lv_aload_n hx hb d_T_ship_42 rfl (lv_at hl 1 rfl) ?_
    refine lv_aload hx hb d_T_ship_43 (lv_at hl 0 rfl) ?_
    refine tGetNA 0 X I (by decide) (vlt ha) d_T_ship_45 ?_
    refine lv_iload_n hx hb d_T_ship_48 rfl (lv_at hl 4 rfl) ?_
    refine tAld X I (by have := (vlt ha); omega) hi d_T_ship_49 ?_
    refine tPutG 6 X I (by decide) (send_id hZ) d_T_ship_50 (fun H locs I => ?_)
    refine lv_aload_n hx hb d_T_ship_53 rfl (lv_at hl 1 rfl) ?_
    refine lv_aload hx hb d_T_ship_54 (lv_at hl 0 rfl) ?_
    refine tGetNA 1 X I (by decide) (vlt ha) d_T_ship_56 ?_
    refine lv_iload_n hx hb d_T_ship_59 rfl (lv_at hl 4 rfl) ?_
    refine tAld X I (by have := (vlt ha); omega) hi d_T_ship_60 ?_
    refine tPutG 7 X I (by decide) (send_id hZ) d_T_ship_61 (fun H locs I => ?_)
    refine lv_aload_n hx hb d_T_ship_64 rfl (lv_at hl 1 rfl) ?_
    refine lv_aload hx hb d_T_ship_65 (lv_at hl 0 rfl) ?_
    refine tGetNA 2 X I (by decide) (vlt ha) d_T_ship_67 ?_
    refine lv_iload_n hx hb d_T_ship_70 rfl (lv_at hl 4 rfl) ?_
    refine tAld X I (by have := (vlt ha); omega) hi d_T_ship_71 ?_
    refine tPutG 8 X I (by decide) (send_id hZ) d_T_ship_72 (fun H locs I => ?_)
    exact hret _ _ _ _ _ I hΦ d_T_ship_75
end
section
theorem wr_k {σ : St} {n : Nat} : zs (f_N_writes σ n).2 = zs σ ∧ lk (f_N_writes σ n).2 = lk σ ∧ mg (f_N_writes σ n).2 = mg σ := by
  unfold f_N_writes f_N_goDown
  split
  · exact ⟨rfl, rfl, rfl⟩
  · split <;> exact ⟨rfl, rfl, rfl⟩
theorem add_k {σ : St} {n : Nat} {t k v : Int32} : zs (f_N_add σ n t k v).2 = zs σ ∧ lk (f_N_add σ n t k v).2 = lk σ ∧ mg (f_N_add σ n t k v).2 = mg σ := by
  have h := @wr_k σ n
  unfold f_N_add
  split <;> exact h
theorem cut_k {σ : St} {n : Nat} {t : Int32} : zs (f_N_cut σ n t).2 = zs σ ∧ lk (f_N_cut σ n t).2 = lk σ ∧ mg (f_N_cut σ n t).2 = mg σ := by
  have h := @wr_k σ n
  unfold f_N_cut
  split <;> exact h
theorem bec_k {σ : St} {n : Nat} {t : Int32} : zs (f_N_becomes σ n t).2 = zs σ ∧ lk (f_N_becomes σ n t).2 = lk σ ∧ mg (f_N_becomes σ n t).2 = mg σ := by
  have h := @wr_k σ n
  unfold f_N_becomes
  split <;> exact h
theorem bec_len {σ : St} {n q : Nat} {t : Int32} : nf (f_N_becomes σ n t).2 q 4 = nf σ q 4 := by
  have h := @wr_len σ n q
  unfold f_N_becomes
  split
  · exact h
  · rw [← h]; simp [nf, sn, up2]
theorem Bz.of {σ σ' : St} (h : Bz σ) (k : zs σ' = zs σ ∧ lk σ' = lk σ ∧ mg σ' = mg σ) : Bz σ' := by
  unfold Bz
  rw [k.1, k.2.1]
  exact h
theorem add_len {σ : St} {n : Nat} {t k v : Int32} (h : ¬ (f_N_add σ n t k v).1 = 0) : nf (f_N_add σ n t k v).2 n 4 = nf σ n 4 + 1 := by
  unfold f_N_add at h ⊢
  split
  · rename_i c
    rw [if_pos c] at h
    exact absurd rfl h
  · rw [← @wr_len σ n n]
    simp [nf, sn, sa, up2]
theorem tk_lk {σ : St} {q r : Int32} (h : vp_in r 17) (hlk : ∀ i, i < 17 → lk σ i < 17) : ∀ i, i < 17 → lk (sl σ q.toNatClampNeg (lk σ r.toNatClampNeg)) i < 17 := by
  intro i hi
  have e : lk (sl σ q.toNatClampNeg (lk σ r.toNatClampNeg)) i = if i = q.toNatClampNeg then lk σ r.toNatClampNeg else lk σ i := rfl
  rw [e]
  split
  · exact hlk _ (vlt h)
  · exact hlk i hi
def f_T_take_9 : Nat → St → Nat → Int32 → Nat × St
  | 0, σ, _, _ => (0, σ)
  | fuel + 1, σ, d, v3 => (if 16 ≤ v3 then (d, (sz (sl σ (16 : Int32).toNatClampNeg d) ((zs (sl σ (16 : Int32).toNatClampNeg d)) - 1))) else (f_T_take_9 fuel (sl σ v3.toNatClampNeg (lk σ (v3 + 1).toNatClampNeg)) d (v3 + 1)))
def f_T_take (σ : St) (a : Int32) : Nat × St := (f_T_take_9 18 σ (lk σ a.toNatClampNeg) a)
set_option maxHeartbeats 4000000 in
set_option maxRecDepth 100000 in
theorem c_T_take (l : Launch) (D : va_G) (ca : Nat → ClassId) (ad : Nat → Nat) (A : Nat → Prop) (σ : St) (a : Int32) (hZ : Bz σ) (hi : vp_in a 17) : Met l y_T_take (Cond.code y_T_take b_T_take 4 (some (.object "TwinLog$Message")) :: BASE) (rmK 0) (va_Pc [.ref (ad 0), .int a] (Pre D (tysT ca) A (wT ca ad σ))) (va_Qq (fun r u => (r, u) = lr ad (f_T_take σ a)) (Pst D A (wT ca ad)) A) 0 0 A := by
  refine enterQx (by decide) (Nat.le_of_ble_eq_true rfl) ?_
  intro Φ hΦ p e s m args below meth c Q X hret I ls hl
  have hx := X.x
  have hb := X.b
  have hl : lv_has ls 4 [(0, .ref (ad 0)), (1, .int a)] := hl
  have hlk := hZ.2
  have blk_9 : ∀ (fuel : Nat) (σ : St) (d : Nat) (v3 : Int32) (H : Heap) (locs : List Loc) (ls : Array Slot), In D A s.heap (wT ca ad σ) H locs → lv_has ls 4 [(0, .ref (ad 0)), (2, .ref (ad (11 + d))), (3, .int v3)] → Φ (lr ad (f_T_take_9 fuel σ d v3)) → (d < 17) → (0 ≤ v3.toInt ∧ v3.toInt ≤ 16) → (16 - v3.toInt < fuel) → (∀ i, i < 17 → lk σ i < 17) → W p l e (rmK 0) s m args below meth c H locs 0 0 Q (F0 m 9 ls []) := by
    intro fuel
    induction fuel with
    | zero => intro σ d v3 H locs ls I hl hΦ hd h3 hf hlk; exact absurd hf (by omega)
    | succ fuel ih =>
      intro σ d v3 H locs ls I hl hΦ hd h3 hf hlk
      rw [f_T_take_9] at hΦ
      refine lv_iload_n hx hb d_T_take_9 rfl (lv_at hl 2 rfl) ?_
      refine lv_bipush (v := 16) hx hb d_T_take_10 (by decide) ?_
      refine lv_icmp_ge (tgt := 35) hx hb d_T_take_12 (by decide) (fun c_12 => ?_) (fun c_12 => ?_)
      · rw [if_pos c_12] at hΦ
        refine lv_aload_n hx hb d_T_take_35 rfl (lv_at hl 0 rfl) ?_
        refine tGetLink X I d_T_take_36 ?_
        refine lv_bipush (v := 16) hx hb d_T_take_39 (by decide) ?_
        refine lv_aload_n hx hb d_T_take_41 rfl (lv_at hl 1 rfl) ?_
        refine tLinkSt X I hd (vi (by decide)) d_T_take_42 (fun H locs I => ?_)
        refine lv_aload_n hx hb d_T_take_43 rfl (lv_at hl 0 rfl) ?_
        refine lv_dup hx hb d_T_take_44 rfl ?_
        refine tGetSize X I d_T_take_45 ?_
        refine lv_iconst (v := 1) hx hb d_T_take_48 (by decide) ?_
        refine lv_isub hx hb d_T_take_49 ?_
        refine tPutSize X I d_T_take_50 (fun H locs I => ?_)
        refine lv_aload_n hx hb d_T_take_53 rfl (lv_at hl 1 rfl) ?_
        exact hret _ _ _ _ (some (ad (11 + d))) _ I hΦ d_T_take_54
      · rw [if_neg c_12] at hΦ
        have hlt : v3.toInt < 16 := by have := c_12; rw [n_le, n_16] at this; omega
        have e1 : (v3 + 1).toInt = v3.toInt + 1 := by rw [n_add (by rw [n_1]; omega) (by rw [n_1]; omega), n_1]
        have hk : vp_in v3 17 := vi ⟨h3.1, by omega⟩
        have hk1 : vp_in (v3 + 1) 17 := vi (by rw [e1]; omega)
        refine lv_aload_n hx hb d_T_take_15 rfl (lv_at hl 0 rfl) ?_
        refine tGetLink X I d_T_take_16 ?_
        refine lv_iload_n hx hb d_T_take_19 rfl (lv_at hl 2 rfl) ?_
        refine lv_aload_n hx hb d_T_take_20 rfl (lv_at hl 0 rfl) ?_
        refine tGetLink X I d_T_take_21 ?_
        refine lv_iload_n hx hb d_T_take_24 rfl (lv_at hl 2 rfl) ?_
        refine lv_iconst (v := 1) hx hb d_T_take_25 (by decide) ?_
        refine lv_iadd hx hb d_T_take_26 ?_
        refine tLink X I hk1 d_T_take_27 ?_
        refine tLinkSt X I (hlk _ (vlt hk1)) hk d_T_take_28 (fun H locs I => ?_)
        refine lv_iinc (v := (v3 + 1)) (lv' := [(3, .int (v3 + 1)), (0, .ref (ad 0)), (2, .ref (ad (11 + d)))]) hx hb d_T_take_29 hl (k := 2) rfl rfl (by decide) rfl (fun ls hl => ?_)
        refine lv_goto (tgt := 9) hx hb d_T_take_32 (by decide) ?_
        exact ih (sl σ v3.toNatClampNeg (lk σ (v3 + 1).toNatClampNeg)) d (v3 + 1) _ _ _ I (lv_sub hl [1, 2, 0] rfl) hΦ hd ⟨by rw [e1]; omega, by rw [e1]; omega⟩ (by rw [e1]; omega) (tk_lk hk1 hlk)
  rw [f_T_take] at hΦ
  refine lv_aload_n hx hb d_T_take_0 rfl (lv_at hl 0 rfl) ?_
  refine tGetLink X I d_T_take_1 ?_
  refine lv_iload_n hx hb d_T_take_4 rfl (lv_at hl 1 rfl) ?_
  refine tLink X I hi d_T_take_5 ?_
  refine lv_astore_n (lv' := [(2, .ref (ad (11 + (lk σ a.toNatClampNeg)))), (0, .ref (ad 0)), (1, .int a)]) hx hb d_T_take_6 rfl hl (by decide) rfl (fun ls hl => ?_)
  refine lv_iload_n hx hb d_T_take_7 rfl (lv_at hl 2 rfl) ?_
  refine lv_istore_n (lv' := [(3, .int a), (2, .ref (ad (11 + (lk σ a.toNatClampNeg)))), (0, .ref (ad 0)), (1, .int a)]) hx hb d_T_take_8 rfl hl (by decide) rfl (fun ls hl => ?_)
  exact blk_9 18 σ (lk σ a.toNatClampNeg) a _ _ _ I (lv_sub hl [2, 1, 0] rfl) hΦ (hZ.2 _ (vlt hi)) (by have := iv hi; exact ⟨this.1, by omega⟩) (by have := iv hi; omega) hZ.2
def f_T_put (σ : St) (a : Int32) (b : Int32) (x : Int32) : Int32 × St := (if (f_T_isNode σ a) = 0 then ((-1), σ) else (if b < 0 then ((-1), σ) else (if b < 16 then (if (nf σ a.toNatClampNeg 5) = 0 then ((-4), σ) else (if (nf σ a.toNatClampNeg 6) = 0 then ((-2), σ) else (if (nf σ a.toNatClampNeg 4) = 64 then ((-3), σ) else (if (zs σ) = 16 then ((-3), σ) else (if (f_N_add σ a.toNatClampNeg (nf σ a.toNatClampNeg 0) b x).1 = 0 then ((-4), (f_N_add σ a.toNatClampNeg (nf σ a.toNatClampNeg 0) b x).2) else (((nf (f_T_ship (f_N_add σ a.toNatClampNeg (nf σ a.toNatClampNeg 0) b x).2 a ((nf (f_N_add σ a.toNatClampNeg (nf σ a.toNatClampNeg 0) b x).2 a.toNatClampNeg 4) - 1)) a.toNatClampNeg 4) - 1), (f_T_ship (f_N_add σ a.toNatClampNeg (nf σ a.toNatClampNeg 0) b x).2 a ((nf (f_N_add σ a.toNatClampNeg (nf σ a.toNatClampNeg 0) b x).2 a.toNatClampNeg 4) - 1)))))))) else ((-1), σ))))
set_option maxHeartbeats 4000000 in
set_option maxRecDepth 100000 in
theorem c_T_put (l : Launch) (D : va_G) (ca : Nat → ClassId) (ad : Nat → Nat) (A : Nat → Prop) (σ : St) (a : Int32) (b : Int32) (x : Int32) (hB : Bs σ) : Met l y_T_put (Cond.code y_T_put b_T_put 5 (some .int) :: BASE) (rmK 3) (va_Pc [.ref (ad 0), .int a, .int b, .int x] (Pre D (tysT ca) A (wT ca ad σ))) (va_Qi (fun r u => (r, u) = f_T_put σ a b x) (Pst D A (wT ca ad)) A) 0 0 A := by
  refine enterIx (by decide) (Nat.le_of_ble_eq_true rfl) ?_
  intro Φ hΦ p e s m args below meth c Q X hret I ls hl
  have hx := X.x
  have hb := X.b
  have hl : lv_has ls 5 [(0, .ref (ad 0)), (1, .int a), (2, .int b), (3, .int x)] := hl
  rw [f_T_put] at hΦ
  refine lv_iload_n hx hb d_T_put_0 rfl (lv_at hl 1 rfl) ?_
  refine goIp (wf := wT ca ad) (w := σ) I (runS X I [.int a] (c_T_isNode l D ca ad A σ a) k_T_78 rfl hl rfl ⟨Nat.le_of_ble_eq_true rfl, Nat.le_of_ble_eq_true rfl⟩ (Nat.le_of_ble_eq_true rfl) ⟨Nat.le_refl 0, Nat.le_refl 0⟩ d_T_put_1) (fun H locs I => ?_)
  refine lv_if_eq (tgt := 17) hx hb d_T_put_4 (by decide) (fun c_4 => ?_) (fun c_4 => ?_)
  · rw [if_pos c_4] at hΦ
    refine lv_iconst (v := (-1)) hx hb d_T_put_17 (by decide) ?_
    exact hret _ _ _ _ _ _ I hΦ d_T_put_18
  · rw [if_neg c_4] at hΦ
    have ha : vp_in a 2 := isN_in c_4
    refine lv_iload_n hx hb d_T_put_7 rfl (lv_at hl 2 rfl) ?_
    refine lv_if_lt (tgt := 17) hx hb d_T_put_8 (by decide) (fun c_8 => ?_) (fun c_8 => ?_)
    · rw [if_pos c_8] at hΦ
      refine lv_iconst (v := (-1)) hx hb d_T_put_17 (by decide) ?_
      exact hret _ _ _ _ _ _ I hΦ d_T_put_18
    · rw [if_neg c_8] at hΦ
      refine lv_iload_n hx hb d_T_put_11 rfl (lv_at hl 2 rfl) ?_
      refine lv_bipush (v := 16) hx hb d_T_put_12 (by decide) ?_
      refine lv_icmp_lt (tgt := 19) hx hb d_T_put_14 (by decide) (fun c_14 => ?_) (fun c_14 => ?_)
      · rw [if_pos c_14] at hΦ
        refine lv_aload_n hx hb d_T_put_19 rfl (lv_at hl 0 rfl) ?_
        refine tGetNodes X I d_T_put_20 ?_
        refine lv_iload_n hx hb d_T_put_23 rfl (lv_at hl 1 rfl) ?_
        refine tNode X I ha d_T_put_24 ?_
        refine lv_astore (lv' := [(4, .ref (ad (3 + a.toNatClampNeg))), (0, .ref (ad 0)), (1, .int a), (2, .int b), (3, .int x)]) hx hb d_T_put_25 hl (by decide) rfl (fun ls hl => ?_)
        refine lv_aload hx hb d_T_put_27 (lv_at hl 0 rfl) ?_
        refine tGetN 5 X I rfl (vlt ha) d_T_put_29 ?_
        refine lv_if_ne (tgt := 38) hx hb d_T_put_32 (by decide) (fun c_32 => ?_) (fun c_32 => ?_)
        · rw [if_neg c_32] at hΦ
          refine lv_aload hx hb d_T_put_38 (lv_at hl 0 rfl) ?_
          refine tGetN 6 X I rfl (vlt ha) d_T_put_40 ?_
          refine lv_if_ne (tgt := 49) hx hb d_T_put_43 (by decide) (fun c_43 => ?_) (fun c_43 => ?_)
          · rw [if_neg c_43] at hΦ
            refine lv_aload hx hb d_T_put_49 (lv_at hl 0 rfl) ?_
            refine tGetN 4 X I rfl (vlt ha) d_T_put_51 ?_
            refine lv_bipush (v := 64) hx hb d_T_put_54 (by decide) ?_
            refine lv_icmp_eq (tgt := 68) hx hb d_T_put_56 (by decide) (fun c_56 => ?_) (fun c_56 => ?_)
            · rw [if_pos c_56] at hΦ
              refine lv_bipush (v := (-3)) hx hb d_T_put_68 (by decide) ?_
              exact hret _ _ _ _ _ _ I hΦ d_T_put_70
            · rw [if_neg c_56] at hΦ
              refine lv_aload_n hx hb d_T_put_59 rfl (lv_at hl 1 rfl) ?_
              refine tGetSize X I d_T_put_60 ?_
              refine lv_bipush (v := 16) hx hb d_T_put_63 (by decide) ?_
              refine lv_icmp_ne (tgt := 71) hx hb d_T_put_65 (by decide) (fun c_65 => ?_) (fun c_65 => ?_)
              · rw [if_neg c_65] at hΦ
                have hlen : vp_in (nf σ a.toNatClampNeg 4) 64 := by
                  have h1 := hB.2 _ (vlt ha)
                  have h2 := c_56
                  rw [n_eq, n_64] at h2
                  exact vi ⟨h1.1, by omega⟩
                refine lv_aload hx hb d_T_put_71 (lv_at hl 0 rfl) ?_
                refine lv_aload hx hb d_T_put_73 (lv_at hl 0 rfl) ?_
                refine tGetN 0 X I rfl (vlt ha) d_T_put_75 ?_
                refine lv_iload_n hx hb d_T_put_78 rfl (lv_at hl 3 rfl) ?_
                refine lv_iload_n hx hb d_T_put_79 rfl (lv_at hl 4 rfl) ?_
                refine goIf (wf := wT ca ad) I (rN (vlt ha) X I [.int (nf σ a.toNatClampNeg 0), .int b, .int x] (c_N_add l D ca ad A σ a.toNatClampNeg (nf σ a.toNatClampNeg 0) b x (vlt ha) hlen) k_T_85 rfl hl rfl ⟨Nat.le_of_ble_eq_true rfl, Nat.le_of_ble_eq_true rfl⟩ (Nat.le_of_ble_eq_true rfl) ⟨Nat.le_refl 0, Nat.le_refl 0⟩ d_T_put_80) (fun H locs I => ?_)
                refine lv_if_ne (tgt := 89) hx hb d_T_put_83 (by decide) (fun c_83 => ?_) (fun c_83 => ?_)
                · rw [if_neg c_83] at hΦ
                  have hl1 : vp_in ((nf (f_N_add σ a.toNatClampNeg (nf σ a.toNatClampNeg 0) b x).2 a.toNatClampNeg 4) - 1) 64 := by
                    rw [add_len c_83]
                    have h := iv hlen
                    have e1 : (nf σ a.toNatClampNeg 4 + 1).toInt = (nf σ a.toNatClampNeg 4).toInt + 1 := by rw [n_add (by rw [n_1]; omega) (by rw [n_1]; omega), n_1]
                    exact vi (by rw [n_sub (by rw [n_1, e1]; omega) (by rw [n_1, e1]; omega), n_1, e1]; omega)
                  refine lv_aload_n hx hb d_T_put_89 rfl (lv_at hl 1 rfl) ?_
                  refine lv_iload_n hx hb d_T_put_90 rfl (lv_at hl 2 rfl) ?_
                  refine lv_aload hx hb d_T_put_91 (lv_at hl 0 rfl) ?_
                  refine tGetN 4 X I rfl (vlt ha) d_T_put_93 ?_
                  refine lv_iconst (v := 1) hx hb d_T_put_96 (by decide) ?_
                  refine lv_isub hx hb d_T_put_97 ?_
                  refine goVf (wf := wT ca ad) I (rT X I [.int a, .int ((nf (f_N_add σ a.toNatClampNeg (nf σ a.toNatClampNeg 0) b x).2 a.toNatClampNeg 4) - 1)] (c_T_ship l D ca ad A (f_N_add σ a.toNatClampNeg (nf σ a.toNatClampNeg 0) b x).2 a ((nf (f_N_add σ a.toNatClampNeg (nf σ a.toNatClampNeg 0) b x).2 a.toNatClampNeg 4) - 1) (hB.1.of add_k) ha hl1) k_T_89 rfl hl rfl ⟨Nat.le_of_ble_eq_true rfl, Nat.le_of_ble_eq_true rfl⟩ (Nat.le_of_ble_eq_true rfl) ⟨Nat.le_refl 0, Nat.le_refl 0⟩ d_T_put_98) (fun H locs I => ?_)
                  refine lv_aload hx hb d_T_put_101 (lv_at hl 0 rfl) ?_
                  refine tGetN 4 X I rfl (vlt ha) d_T_put_103 ?_
                  refine lv_iconst (v := 1) hx hb d_T_put_106 (by decide) ?_
                  refine lv_isub hx hb d_T_put_107 ?_
                  exact hret _ _ _ _ _ _ I hΦ d_T_put_108
                · rw [if_pos c_83] at hΦ
                  refine lv_bipush (v := (-4)) hx hb d_T_put_86 (by decide) ?_
                  exact hret _ _ _ _ _ _ I hΦ d_T_put_88
              · rw [if_pos c_65] at hΦ
                refine lv_bipush (v := (-3)) hx hb d_T_put_68 (by decide) ?_
                exact hret _ _ _ _ _ _ I hΦ d_T_put_70
          · rw [if_pos c_43] at hΦ
            refine lv_bipush (v := (-2)) hx hb d_T_put_46 (by decide) ?_
            exact hret _ _ _ _ _ _ I hΦ d_T_put_48
        · rw [if_pos c_32] at hΦ
          refine lv_bipush (v := (-4)) hx hb d_T_put_35 (by decide) ?_
          exact hret _ _ _ _ _ _ I hΦ d_T_put_37
      · rw [if_neg c_14] at hΦ
        refine lv_iconst (v := (-1)) hx hb d_T_put_17 (by decide) ?_
        exact hret _ _ _ _ _ _ I hΦ d_T_put_18
def f_T_get_34 : Nat → St → Int32 → Nat → Int32 → Int32
  | 0, σ, _, _, _ => 0
  | fuel + 1, σ, b, n, v4 => (if v4 < 0 then (if 0 ≤ v4 then (ar σ (3 * n + 2) v4.toNatClampNeg) else 0) else (if (ar σ (3 * n + 1) v4.toNatClampNeg) = b then (if 0 ≤ v4 then (ar σ (3 * n + 2) v4.toNatClampNeg) else 0) else (f_T_get_34 fuel σ b n (v4 + (-1)))))
def f_T_get (σ : St) (a : Int32) (b : Int32) : Int32 := (if (f_T_isNode σ a) = 0 then (-1) else (if b < 0 then (-1) else (if b < 16 then (f_T_get_34 66 σ b a.toNatClampNeg ((nf σ a.toNatClampNeg 4) - 1)) else (-1))))
set_option maxHeartbeats 4000000 in
set_option maxRecDepth 100000 in
theorem c_T_get (l : Launch) (D : va_G) (ca : Nat → ClassId) (ad : Nat → Nat) (A : Nat → Prop) (σ : St) (a : Int32) (b : Int32) (hB : Bs σ) : Met l y_T_get (Cond.code y_T_get b_T_get 5 (some .int) :: BASE) (rmK 1) (va_Pc [.ref (ad 0), .int a, .int b] (Pre D (tysT ca) A (wT ca ad σ))) (va_Qi (fun r u => (r, u) = (f_T_get σ a b, σ)) (Pst D A (wT ca ad)) A) 0 0 A := by
  refine enterIx (by decide) (Nat.le_of_ble_eq_true rfl) ?_
  intro Φ hΦ p e s m args below meth c Q X hret I ls hl
  have hx := X.x
  have hb := X.b
  have hl : lv_has ls 5 [(0, .ref (ad 0)), (1, .int a), (2, .int b)] := hl
  have blk_34 : ∀ (fuel : Nat) (σ : St) (b : Int32) (n : Nat) (v4 : Int32) (H : Heap) (locs : List Loc) (ls : Array Slot), In D A s.heap (wT ca ad σ) H locs → lv_has ls 5 [(2, .int b), (3, .ref (ad (3 + n))), (4, .int v4)] → Φ (f_T_get_34 fuel σ b n v4, σ) → (n < 2) → (-1 ≤ v4.toInt ∧ v4.toInt < 64) → (v4.toInt + 1 < fuel) → W p l e (rmK 1) s m args below meth c H locs 0 0 Q (F0 m 34 ls []) := by
    intro fuel
    induction fuel with
    | zero => intro σ b n v4 H locs ls I hl hΦ hn h4 hf; exact absurd hf (by omega)
    | succ fuel ih =>
      intro σ b n v4 H locs ls I hl hΦ hn h4 hf
      rw [f_T_get_34] at hΦ
      refine lv_iload hx hb d_T_get_34 (lv_at hl 2 rfl) ?_
      refine lv_if_lt (tgt := 56) hx hb d_T_get_36 (by decide) (fun c_36 => ?_) (fun c_36 => ?_)
      · rw [if_pos c_36] at hΦ
        refine lv_iload hx hb d_T_get_56 (lv_at hl 2 rfl) ?_
        refine lv_if_ge (tgt := 65) hx hb d_T_get_58 (by decide) (fun c_58 => ?_) (fun c_58 => ?_)
        · rw [if_pos c_58] at hΦ
          have hq : vp_in v4 64 := vi ⟨by have := c_58; rw [n_le, n_0] at this; exact this, h4.2⟩
          refine lv_aload_n hx hb d_T_get_65 rfl (lv_at hl 1 rfl) ?_
          refine tGetNA 2 X I (by decide) hn d_T_get_66 ?_
          refine lv_iload hx hb d_T_get_69 (lv_at hl 2 rfl) ?_
          refine tAld X I (by have := hn; omega) hq d_T_get_71 ?_
          exact hret _ _ _ _ _ _ I hΦ d_T_get_72
        · rw [if_neg c_58] at hΦ
          refine lv_iconst (v := 0) hx hb d_T_get_61 (by decide) ?_
          refine lv_goto (tgt := 72) hx hb d_T_get_62 (by decide) ?_
          exact hret _ _ _ _ _ _ I hΦ d_T_get_72
      · rw [if_neg c_36] at hΦ
        have hq : vp_in v4 64 := vi ⟨by have := c_36; rw [n_lt, n_0] at this; omega, h4.2⟩
        have hv := iv hq
        have e1 : (v4 + (-1)).toInt = v4.toInt - 1 := by have := iv hq; rw [n_add (by rw [n_m1]; omega) (by rw [n_m1]; omega), n_m1]; omega
        refine lv_aload_n hx hb d_T_get_39 rfl (lv_at hl 1 rfl) ?_
        refine tGetNA 1 X I (by decide) hn d_T_get_40 ?_
        refine lv_iload hx hb d_T_get_43 (lv_at hl 2 rfl) ?_
        refine tAld X I (by have := hn; omega) hq d_T_get_45 ?_
        refine lv_iload_n hx hb d_T_get_46 rfl (lv_at hl 0 rfl) ?_
        refine lv_icmp_eq (tgt := 56) hx hb d_T_get_47 (by decide) (fun c_47 => ?_) (fun c_47 => ?_)
        · rw [if_pos c_47] at hΦ
          refine lv_iload hx hb d_T_get_56 (lv_at hl 2 rfl) ?_
          refine lv_if_ge (tgt := 65) hx hb d_T_get_58 (by decide) (fun c_58 => ?_) (fun c_58 => ?_)
          · rw [if_pos c_58] at hΦ
            have hq : vp_in v4 64 := vi ⟨by have := c_58; rw [n_le, n_0] at this; exact this, h4.2⟩
            refine lv_aload_n hx hb d_T_get_65 rfl (lv_at hl 1 rfl) ?_
            refine tGetNA 2 X I (by decide) hn d_T_get_66 ?_
            refine lv_iload hx hb d_T_get_69 (lv_at hl 2 rfl) ?_
            refine tAld X I (by have := hn; omega) hq d_T_get_71 ?_
            exact hret _ _ _ _ _ _ I hΦ d_T_get_72
          · rw [if_neg c_58] at hΦ
            refine lv_iconst (v := 0) hx hb d_T_get_61 (by decide) ?_
            refine lv_goto (tgt := 72) hx hb d_T_get_62 (by decide) ?_
            exact hret _ _ _ _ _ _ I hΦ d_T_get_72
        · rw [if_neg c_47] at hΦ
          refine lv_iinc (v := (v4 + (-1))) (lv' := [(4, .int (v4 + (-1))), (2, .int b), (3, .ref (ad (3 + n)))]) hx hb d_T_get_50 hl (k := 2) rfl rfl (by decide) rfl (fun ls hl => ?_)
          refine lv_goto (tgt := 34) hx hb d_T_get_53 (by decide) ?_
          exact ih σ b n (v4 + (-1)) _ _ _ I (lv_sub hl [1, 2, 0] rfl) hΦ hn ⟨by rw [e1]; omega, by rw [e1]; omega⟩ (by rw [e1]; omega)
  rw [f_T_get] at hΦ
  refine lv_iload_n hx hb d_T_get_0 rfl (lv_at hl 1 rfl) ?_
  refine goIp (wf := wT ca ad) (w := σ) I (runS X I [.int a] (c_T_isNode l D ca ad A σ a) k_T_78 rfl hl rfl ⟨Nat.le_of_ble_eq_true rfl, Nat.le_of_ble_eq_true rfl⟩ (Nat.le_of_ble_eq_true rfl) ⟨Nat.le_refl 0, Nat.le_refl 0⟩ d_T_get_1) (fun H locs I => ?_)
  refine lv_if_eq (tgt := 17) hx hb d_T_get_4 (by decide) (fun c_4 => ?_) (fun c_4 => ?_)
  · rw [if_pos c_4] at hΦ
    refine lv_iconst (v := (-1)) hx hb d_T_get_17 (by decide) ?_
    exact hret _ _ _ _ _ _ I hΦ d_T_get_18
  · rw [if_neg c_4] at hΦ
    have ha : vp_in a 2 := isN_in c_4
    refine lv_iload_n hx hb d_T_get_7 rfl (lv_at hl 2 rfl) ?_
    refine lv_if_lt (tgt := 17) hx hb d_T_get_8 (by decide) (fun c_8 => ?_) (fun c_8 => ?_)
    · rw [if_pos c_8] at hΦ
      refine lv_iconst (v := (-1)) hx hb d_T_get_17 (by decide) ?_
      exact hret _ _ _ _ _ _ I hΦ d_T_get_18
    · rw [if_neg c_8] at hΦ
      refine lv_iload_n hx hb d_T_get_11 rfl (lv_at hl 2 rfl) ?_
      refine lv_bipush (v := 16) hx hb d_T_get_12 (by decide) ?_
      refine lv_icmp_lt (tgt := 19) hx hb d_T_get_14 (by decide) (fun c_14 => ?_) (fun c_14 => ?_)
      · rw [if_pos c_14] at hΦ
        refine lv_aload_n hx hb d_T_get_19 rfl (lv_at hl 0 rfl) ?_
        refine tGetNodes X I d_T_get_20 ?_
        refine lv_iload_n hx hb d_T_get_23 rfl (lv_at hl 1 rfl) ?_
        refine tNode X I ha d_T_get_24 ?_
        refine lv_astore_n (lv' := [(3, .ref (ad (3 + a.toNatClampNeg))), (0, .ref (ad 0)), (1, .int a), (2, .int b)]) hx hb d_T_get_25 rfl hl (by decide) rfl (fun ls hl => ?_)
        refine lv_aload_n hx hb d_T_get_26 rfl (lv_at hl 0 rfl) ?_
        refine tGetN 4 X I rfl (vlt ha) d_T_get_27 ?_
        refine lv_iconst (v := 1) hx hb d_T_get_30 (by decide) ?_
        refine lv_isub hx hb d_T_get_31 ?_
        have hln := hB.2 _ (vlt ha)
        have e1 : (nf σ a.toNatClampNeg 4 - 1).toInt = (nf σ a.toNatClampNeg 4).toInt - 1 := by rw [n_sub (by rw [n_1]; omega) (by rw [n_1]; omega), n_1]
        refine lv_istore (lv' := [(4, .int ((nf σ a.toNatClampNeg 4) - 1)), (3, .ref (ad (3 + a.toNatClampNeg))), (0, .ref (ad 0)), (1, .int a), (2, .int b)]) hx hb d_T_get_32 hl (by decide) rfl (fun ls hl => ?_)
        exact blk_34 66 σ b a.toNatClampNeg ((nf σ a.toNatClampNeg 4) - 1) _ _ _ I (lv_sub hl [4, 1, 0] rfl) hΦ (vlt ha) ⟨by rw [e1]; omega, by rw [e1]; omega⟩ (by rw [e1]; omega)
      · rw [if_neg c_14] at hΦ
        refine lv_iconst (v := (-1)) hx hb d_T_get_17 (by decide) ?_
        exact hret _ _ _ _ _ _ I hΦ d_T_get_18
end
section
def f_T_drop (σ : St) (a : Int32) : Int32 × St := (if a < 0 then (0, σ) else (if a < (zs σ) then (1, (f_T_take σ a).2) else (0, σ)))
set_option maxHeartbeats 4000000 in
set_option maxRecDepth 100000 in
theorem c_T_drop (l : Launch) (D : va_G) (ca : Nat → ClassId) (ad : Nat → Nat) (A : Nat → Prop) (σ : St) (a : Int32) (hZ : Bz σ) : Met l y_T_drop (Cond.code y_T_drop b_T_drop 2 (some .boolean) :: BASE) (rmK 1) (va_Pc [.ref (ad 0), .int a] (Pre D (tysT ca) A (wT ca ad σ))) (va_Qi (fun r u => (r, u) = f_T_drop σ a) (Pst D A (wT ca ad)) A) 0 0 A := by
  refine enterZx (by decide) (Nat.le_of_ble_eq_true rfl) ?_
  intro Φ hΦ p e s m args below meth c Q X hret I ls hl
  have hx := X.x
  have hb := X.b
  have hl : lv_has ls 2 [(0, .ref (ad 0)), (1, .int a)] := hl
  rw [f_T_drop] at hΦ
  refine lv_iload_n hx hb d_T_drop_0 rfl (lv_at hl 1 rfl) ?_
  refine lv_if_lt (tgt := 12) hx hb d_T_drop_1 (by decide) (fun c_1 => ?_) (fun c_1 => ?_)
  · rw [if_pos c_1] at hΦ
    refine lv_iconst (v := 0) hx hb d_T_drop_12 (by decide) ?_
    exact hret _ _ _ _ _ _ I hΦ d_T_drop_13 rfl
  · rw [if_neg c_1] at hΦ
    refine lv_iload_n hx hb d_T_drop_4 rfl (lv_at hl 1 rfl) ?_
    refine lv_aload_n hx hb d_T_drop_5 rfl (lv_at hl 0 rfl) ?_
    refine tGetSize X I d_T_drop_6 ?_
    refine lv_icmp_lt (tgt := 14) hx hb d_T_drop_9 (by decide) (fun c_9 => ?_) (fun c_9 => ?_)
    · rw [if_pos c_9] at hΦ
      have hq : vp_in a 17 := by
        have h1 := c_1
        have h2 := c_9
        rw [n_lt, n_0] at h1
        rw [n_lt] at h2
        have h3 := hZ.1
        exact vi ⟨by omega, by omega⟩
      refine lv_aload_n hx hb d_T_drop_14 rfl (lv_at hl 0 rfl) ?_
      refine lv_iload_n hx hb d_T_drop_15 rfl (lv_at hl 1 rfl) ?_
      refine goRf (wf := wT ca ad) I (rT X I [.int a] (c_T_take l D ca ad A σ a hZ hq) k_T_93 rfl hl rfl ⟨Nat.le_of_ble_eq_true rfl, Nat.le_of_ble_eq_true rfl⟩ (Nat.le_of_ble_eq_true rfl) ⟨Nat.le_refl 0, Nat.le_refl 0⟩ d_T_drop_16) (fun H locs I => ?_)
      refine lv_pop hx hb d_T_drop_19 rfl ?_
      refine lv_iconst (v := 1) hx hb d_T_drop_20 (by decide) ?_
      exact hret _ _ _ _ _ _ I hΦ d_T_drop_21 rfl
    · rw [if_neg c_9] at hΦ
      refine lv_iconst (v := 0) hx hb d_T_drop_12 (by decide) ?_
      exact hret _ _ _ _ _ _ I hΦ d_T_drop_13 rfl
def f_T_shipped_195 (σ : St) (d : Nat) (n : Nat) (v3 : Int32) : Int32 × St := (1, (f_T_send σ (mg σ d 1) 2 v3).2)
def f_T_shipped_171 (σ : St) (d : Nat) (n : Nat) (v3 : Int32) : Int32 × St := (if (nf σ n 4) ≤ (mg σ d 5) then (f_T_shipped_195 σ d n v3) else (if (f_N_cut σ n (mg σ d 5)).1 = 0 then (1, (f_N_cut σ n (mg σ d 5)).2) else (f_T_shipped_195 (f_N_cut σ n (mg σ d 5)).2 d n v3)))
def f_T_shipped_142 (σ : St) (d : Nat) (n : Nat) (v3 : Int32) : Int32 × St := (if (nf σ n 4) = v3 then (if (f_N_add σ n (mg σ d 6) (mg σ d 7) (mg σ d 8)).1 = 0 then (1, (f_N_add σ n (mg σ d 6) (mg σ d 7) (mg σ d 8)).2) else (f_T_shipped_171 (f_N_add σ n (mg σ d 6) (mg σ d 7) (mg σ d 8)).2 d n v3)) else (f_T_shipped_171 σ d n v3))
def f_T_shipped_125 (σ : St) (d : Nat) (n : Nat) (v3 : Int32) (v : Int32) : Int32 × St := (if v = 0 then (f_T_shipped_142 σ d n v3) else (if (f_N_cut σ n v3).1 = 0 then (1, (f_N_cut σ n v3).2) else (f_T_shipped_142 (f_N_cut σ n v3).2 d n v3)))
def f_T_shipped_73 (σ : St) (d : Nat) (n : Nat) (v3 : Int32) : Int32 × St := (if (nf σ n 4) ≤ v3 then (f_T_shipped_125 σ d n v3 0) else (if (ar σ (3 * n + 0) v3.toNatClampNeg) = (mg σ d 6) then (if (ar σ (3 * n + 1) v3.toNatClampNeg) = (mg σ d 7) then (if (ar σ (3 * n + 2) v3.toNatClampNeg) = (mg σ d 8) then (f_T_shipped_125 σ d n v3 0) else (f_T_shipped_125 σ d n v3 1)) else (f_T_shipped_125 σ d n v3 1)) else (f_T_shipped_125 σ d n v3 1)))
def f_T_shipped (σ : St) (d : Nat) (n : Nat) : Int32 × St := (if (mg σ d 3) ≤ (nf σ n 4) then (if (mg σ d 3) ≤ 0 then (f_T_shipped_73 σ d n (mg σ d 3)) else (if (ar σ (3 * n + 0) ((mg σ d 3) - 1).toNatClampNeg) = (mg σ d 4) then (f_T_shipped_73 σ d n (mg σ d 3)) else (if (f_N_cut σ n ((mg σ d 3) - 1)).1 = 0 then (1, (f_N_cut σ n ((mg σ d 3) - 1)).2) else (1, (f_T_send (f_N_cut σ n ((mg σ d 3) - 1)).2 (mg (f_N_cut σ n ((mg σ d 3) - 1)).2 d 1) 3 ((mg σ d 3) - 1)).2)))) else (1, (f_T_send σ (mg σ d 1) 3 (nf σ n 4)).2))
set_option maxHeartbeats 4000000 in
set_option maxRecDepth 100000 in
theorem c_T_shipped (l : Launch) (D : va_G) (ca : Nat → ClassId) (ad : Nat → Nat) (A : Nat → Prop) (σ : St) (d : Nat) (n : Nat) (hZ : Bz σ) (hd : d < 17) (hn : n < 2) (hnd : vp_in (mg σ d 1) 2) (hnum : vp_in (mg σ d 3) 64) : Met l y_T_shipped (Cond.code y_T_shipped b_T_shipped 5 (some .int) :: BASE) (rmK 3) (va_Pc [.ref (ad 0), .ref (ad (11 + d)), .ref (ad (3 + n))] (Pre D (tysT ca) A (wT ca ad σ))) (va_Qi (fun r u => (r, u) = f_T_shipped σ d n) (Pst D A (wT ca ad)) A) 0 0 A := by
  refine enterIx (by decide) (Nat.le_of_ble_eq_true rfl) ?_
  intro Φ hΦ p e s m args below meth c Q X hret I ls hl
  have hx := X.x
  have hb := X.b
  have hl : lv_has ls 5 [(0, .ref (ad 0)), (1, .ref (ad (11 + d))), (2, .ref (ad (3 + n)))] := hl
  have blk_195 : ∀ (σ : St) (v3 : Int32) (H : Heap) (locs : List Loc) (ls : Array Slot), In D A s.heap (wT ca ad σ) H locs → lv_has ls 5 [(0, .ref (ad 0)), (1, .ref (ad (11 + d))), (2, .ref (ad (3 + n))), (3, .int v3)] → Φ (f_T_shipped_195 σ d n v3) → (Bz σ) → (vp_in (mg σ d 1) 2) → (vp_in v3 64) → W p l e (rmK 3) s m args below meth c H locs 0 0 Q (F0 m 195 ls []) := by
    intro σ v3 H locs ls I hl hΦ hZ hnd h3
    rw [f_T_shipped_195] at hΦ
    refine lv_aload_n hx hb d_T_shipped_195 rfl (lv_at hl 0 rfl) ?_
    refine lv_aload_n hx hb d_T_shipped_196 rfl (lv_at hl 1 rfl) ?_
    refine tGetG 1 X I (by decide) hd d_T_shipped_197 ?_
    refine lv_iconst (v := 2) hx hb d_T_shipped_200 (by decide) ?_
    refine lv_iload_n hx hb d_T_shipped_201 rfl (lv_at hl 3 rfl) ?_
    refine goQx (wf := wT ca ad) I (rT X I [.int (mg σ d 1), .int 2, .int v3] (c_T_send l D ca ad A σ (mg σ d 1) 2 v3 hZ hnd) k_T_44 rfl hl rfl ⟨Nat.le_of_ble_eq_true rfl, Nat.le_of_ble_eq_true rfl⟩ (Nat.le_of_ble_eq_true rfl) ⟨Nat.le_refl 0, Nat.le_refl 0⟩ d_T_shipped_202) (fun v hv H locs I => ?_)
    refine lv_pop hx hb d_T_shipped_205 hv ?_
    refine lv_iconst (v := 1) hx hb d_T_shipped_206 (by decide) ?_
    exact hret _ _ _ _ _ _ I hΦ d_T_shipped_207
  have blk_171 : ∀ (σ : St) (v3 : Int32) (H : Heap) (locs : List Loc) (ls : Array Slot), In D A s.heap (wT ca ad σ) H locs → lv_has ls 5 [(0, .ref (ad 0)), (1, .ref (ad (11 + d))), (2, .ref (ad (3 + n))), (3, .int v3)] → Φ (f_T_shipped_171 σ d n v3) → (Bz σ) → (vp_in (mg σ d 1) 2) → (vp_in v3 64) → W p l e (rmK 3) s m args below meth c H locs 0 0 Q (F0 m 171 ls []) := by
    intro σ v3 H locs ls I hl hΦ hZ hnd h3
    rw [f_T_shipped_171] at hΦ
    refine lv_aload_n hx hb d_T_shipped_171 rfl (lv_at hl 2 rfl) ?_
    refine tGetN 4 X I rfl hn d_T_shipped_172 ?_
    refine lv_aload_n hx hb d_T_shipped_175 rfl (lv_at hl 1 rfl) ?_
    refine tGetG 5 X I (by decide) hd d_T_shipped_176 ?_
    refine lv_icmp_le (tgt := 195) hx hb d_T_shipped_179 (by decide) (fun c_179 => ?_) (fun c_179 => ?_)
    · rw [if_pos c_179] at hΦ
      exact blk_195 σ v3 _ _ _ I (lv_sub hl [0, 1, 2, 3] rfl) hΦ hZ hnd h3
    · rw [if_neg c_179] at hΦ
      refine lv_aload_n hx hb d_T_shipped_182 rfl (lv_at hl 2 rfl) ?_
      refine lv_aload_n hx hb d_T_shipped_183 rfl (lv_at hl 1 rfl) ?_
      refine tGetG 5 X I (by decide) hd d_T_shipped_184 ?_
      refine goIf (wf := wT ca ad) I (rN hn X I [.int (mg σ d 5)] (c_N_cut l D ca ad A σ n (mg σ d 5) hn) k_T_111 rfl hl rfl ⟨Nat.le_of_ble_eq_true rfl, Nat.le_of_ble_eq_true rfl⟩ (Nat.le_of_ble_eq_true rfl) ⟨Nat.le_refl 0, Nat.le_refl 0⟩ d_T_shipped_187) (fun H locs I => ?_)
      refine lv_if_ne (tgt := 195) hx hb d_T_shipped_190 (by decide) (fun c_190 => ?_) (fun c_190 => ?_)
      · rw [if_neg c_190] at hΦ
        exact blk_195 (f_N_cut σ n (mg σ d 5)).2 v3 _ _ _ I (lv_sub hl [0, 1, 2, 3] rfl) hΦ (hZ.of cut_k) (by rw [cut_k.2.2]; exact hnd) h3
      · rw [if_pos c_190] at hΦ
        refine lv_iconst (v := 1) hx hb d_T_shipped_193 (by decide) ?_
        exact hret _ _ _ _ _ _ I hΦ d_T_shipped_194
  have blk_142 : ∀ (σ : St) (v3 : Int32) (H : Heap) (locs : List Loc) (ls : Array Slot), In D A s.heap (wT ca ad σ) H locs → lv_has ls 5 [(0, .ref (ad 0)), (1, .ref (ad (11 + d))), (2, .ref (ad (3 + n))), (3, .int v3)] → Φ (f_T_shipped_142 σ d n v3) → (Bz σ) → (vp_in (mg σ d 1) 2) → (vp_in v3 64) → W p l e (rmK 3) s m args below meth c H locs 0 0 Q (F0 m 142 ls []) := by
    intro σ v3 H locs ls I hl hΦ hZ hnd h3
    rw [f_T_shipped_142] at hΦ
    refine lv_aload_n hx hb d_T_shipped_142 rfl (lv_at hl 2 rfl) ?_
    refine tGetN 4 X I rfl hn d_T_shipped_143 ?_
    refine lv_iload_n hx hb d_T_shipped_146 rfl (lv_at hl 3 rfl) ?_
    refine lv_icmp_ne (tgt := 171) hx hb d_T_shipped_147 (by decide) (fun c_147 => ?_) (fun c_147 => ?_)
    · rw [if_neg c_147] at hΦ
      exact blk_171 σ v3 _ _ _ I (lv_sub hl [0, 1, 2, 3] rfl) hΦ hZ hnd h3
    · rw [if_pos c_147] at hΦ
      have hq : vp_in (nf σ n 4) 64 := by rw [c_147]; exact h3
      refine lv_aload_n hx hb d_T_shipped_150 rfl (lv_at hl 2 rfl) ?_
      refine lv_aload_n hx hb d_T_shipped_151 rfl (lv_at hl 1 rfl) ?_
      refine tGetG 6 X I (by decide) hd d_T_shipped_152 ?_
      refine lv_aload_n hx hb d_T_shipped_155 rfl (lv_at hl 1 rfl) ?_
      refine tGetG 7 X I (by decide) hd d_T_shipped_156 ?_
      refine lv_aload_n hx hb d_T_shipped_159 rfl (lv_at hl 1 rfl) ?_
      refine tGetG 8 X I (by decide) hd d_T_shipped_160 ?_
      refine goIf (wf := wT ca ad) I (rN hn X I [.int (mg σ d 6), .int (mg σ d 7), .int (mg σ d 8)] (c_N_add l D ca ad A σ n (mg σ d 6) (mg σ d 7) (mg σ d 8) hn hq) k_T_85 rfl hl rfl ⟨Nat.le_of_ble_eq_true rfl, Nat.le_of_ble_eq_true rfl⟩ (Nat.le_of_ble_eq_true rfl) ⟨Nat.le_refl 0, Nat.le_refl 0⟩ d_T_shipped_163) (fun H locs I => ?_)
      refine lv_if_ne (tgt := 171) hx hb d_T_shipped_166 (by decide) (fun c_166 => ?_) (fun c_166 => ?_)
      · rw [if_neg c_166] at hΦ
        exact blk_171 (f_N_add σ n (mg σ d 6) (mg σ d 7) (mg σ d 8)).2 v3 _ _ _ I (lv_sub hl [0, 1, 2, 3] rfl) hΦ (hZ.of add_k) (by rw [add_k.2.2]; exact hnd) h3
      · rw [if_pos c_166] at hΦ
        refine lv_iconst (v := 1) hx hb d_T_shipped_169 (by decide) ?_
        exact hret _ _ _ _ _ _ I hΦ d_T_shipped_170
  have blk_125 : ∀ (σ : St) (v3 : Int32) (v : Int32) (H : Heap) (locs : List Loc) (ls : Array Slot), In D A s.heap (wT ca ad σ) H locs → lv_has ls 5 [(0, .ref (ad 0)), (1, .ref (ad (11 + d))), (2, .ref (ad (3 + n))), (3, .int v3)] → Φ (f_T_shipped_125 σ d n v3 v) → (Bz σ) → (vp_in (mg σ d 1) 2) → (vp_in v3 64) → W p l e (rmK 3) s m args below meth c H locs 0 0 Q (F0 m 125 ls [.int v]) := by
    intro σ v3 v H locs ls I hl hΦ hZ hnd h3
    rw [f_T_shipped_125] at hΦ
    refine lv_istore (lv' := [(4, .int v), (0, .ref (ad 0)), (1, .ref (ad (11 + d))), (2, .ref (ad (3 + n))), (3, .int v3)]) hx hb d_T_shipped_125 hl (by decide) rfl (fun ls hl => ?_)
    refine lv_iload hx hb d_T_shipped_127 (lv_at hl 0 rfl) ?_
    refine lv_if_eq (tgt := 142) hx hb d_T_shipped_129 (by decide) (fun c_129 => ?_) (fun c_129 => ?_)
    · rw [if_pos c_129] at hΦ
      exact blk_142 σ v3 _ _ _ I (lv_sub hl [1, 2, 3, 4] rfl) hΦ hZ hnd h3
    · rw [if_neg c_129] at hΦ
      refine lv_aload_n hx hb d_T_shipped_132 rfl (lv_at hl 3 rfl) ?_
      refine lv_iload_n hx hb d_T_shipped_133 rfl (lv_at hl 4 rfl) ?_
      refine goIf (wf := wT ca ad) I (rN hn X I [.int v3] (c_N_cut l D ca ad A σ n v3 hn) k_T_111 rfl hl rfl ⟨Nat.le_of_ble_eq_true rfl, Nat.le_of_ble_eq_true rfl⟩ (Nat.le_of_ble_eq_true rfl) ⟨Nat.le_refl 0, Nat.le_refl 0⟩ d_T_shipped_134) (fun H locs I => ?_)
      refine lv_if_ne (tgt := 142) hx hb d_T_shipped_137 (by decide) (fun c_137 => ?_) (fun c_137 => ?_)
      · rw [if_neg c_137] at hΦ
        exact blk_142 (f_N_cut σ n v3).2 v3 _ _ _ I (lv_sub hl [1, 2, 3, 4] rfl) hΦ (hZ.of cut_k) (by rw [cut_k.2.2]; exact hnd) h3
      · rw [if_pos c_137] at hΦ
        refine lv_iconst (v := 1) hx hb d_T_shipped_140 (by decide) ?_
        exact hret _ _ _ _ _ _ I hΦ d_T_shipped_141
  have blk_73 : ∀ (σ : St) (v3 : Int32) (H : Heap) (locs : List Loc) (ls : Array Slot), In D A s.heap (wT ca ad σ) H locs → lv_has ls 5 [(0, .ref (ad 0)), (1, .ref (ad (11 + d))), (2, .ref (ad (3 + n))), (3, .int v3)] → Φ (f_T_shipped_73 σ d n v3) → (Bz σ) → (vp_in (mg σ d 1) 2) → (vp_in v3 64) → W p l e (rmK 3) s m args below meth c H locs 0 0 Q (F0 m 73 ls []) := by
    intro σ v3 H locs ls I hl hΦ hZ hnd h3
    rw [f_T_shipped_73] at hΦ
    refine lv_aload_n hx hb d_T_shipped_73 rfl (lv_at hl 2 rfl) ?_
    refine tGetN 4 X I rfl hn d_T_shipped_74 ?_
    refine lv_iload_n hx hb d_T_shipped_77 rfl (lv_at hl 3 rfl) ?_
    refine lv_icmp_le (tgt := 124) hx hb d_T_shipped_78 (by decide) (fun c_78 => ?_) (fun c_78 => ?_)
    · rw [if_pos c_78] at hΦ
      refine lv_iconst (v := 0) hx hb d_T_shipped_124 (by decide) ?_
      exact blk_125 σ v3 0 _ _ _ I (lv_sub hl [0, 1, 2, 3] rfl) hΦ hZ hnd h3
    · rw [if_neg c_78] at hΦ
      refine lv_aload_n hx hb d_T_shipped_81 rfl (lv_at hl 2 rfl) ?_
      refine tGetNA 0 X I (by decide) hn d_T_shipped_82 ?_
      refine lv_iload_n hx hb d_T_shipped_85 rfl (lv_at hl 3 rfl) ?_
      refine tAld X I (by have := hn; omega) h3 d_T_shipped_86 ?_
      refine lv_aload_n hx hb d_T_shipped_87 rfl (lv_at hl 1 rfl) ?_
      refine tGetG 6 X I (by decide) hd d_T_shipped_88 ?_
      refine lv_icmp_ne (tgt := 120) hx hb d_T_shipped_91 (by decide) (fun c_91 => ?_) (fun c_91 => ?_)
      · rw [if_neg c_91] at hΦ
        refine lv_iconst (v := 1) hx hb d_T_shipped_120 (by decide) ?_
        refine lv_goto (tgt := 125) hx hb d_T_shipped_121 (by decide) ?_
        exact blk_125 σ v3 1 _ _ _ I (lv_sub hl [0, 1, 2, 3] rfl) hΦ hZ hnd h3
      · rw [if_pos c_91] at hΦ
        refine lv_aload_n hx hb d_T_shipped_94 rfl (lv_at hl 2 rfl) ?_
        refine tGetNA 1 X I (by decide) hn d_T_shipped_95 ?_
        refine lv_iload_n hx hb d_T_shipped_98 rfl (lv_at hl 3 rfl) ?_
        refine tAld X I (by have := hn; omega) h3 d_T_shipped_99 ?_
        refine lv_aload_n hx hb d_T_shipped_100 rfl (lv_at hl 1 rfl) ?_
        refine tGetG 7 X I (by decide) hd d_T_shipped_101 ?_
        refine lv_icmp_ne (tgt := 120) hx hb d_T_shipped_104 (by decide) (fun c_104 => ?_) (fun c_104 => ?_)
        · rw [if_neg c_104] at hΦ
          refine lv_iconst (v := 1) hx hb d_T_shipped_120 (by decide) ?_
          refine lv_goto (tgt := 125) hx hb d_T_shipped_121 (by decide) ?_
          exact blk_125 σ v3 1 _ _ _ I (lv_sub hl [0, 1, 2, 3] rfl) hΦ hZ hnd h3
        · rw [if_pos c_104] at hΦ
          refine lv_aload_n hx hb d_T_shipped_107 rfl (lv_at hl 2 rfl) ?_
          refine tGetNA 2 X I (by decide) hn d_T_shipped_108 ?_
          refine lv_iload_n hx hb d_T_shipped_111 rfl (lv_at hl 3 rfl) ?_
          refine tAld X I (by have := hn; omega) h3 d_T_shipped_112 ?_
          refine lv_aload_n hx hb d_T_shipped_113 rfl (lv_at hl 1 rfl) ?_
          refine tGetG 8 X I (by decide) hd d_T_shipped_114 ?_
          refine lv_icmp_eq (tgt := 124) hx hb d_T_shipped_117 (by decide) (fun c_117 => ?_) (fun c_117 => ?_)
          · rw [if_pos c_117] at hΦ
            refine lv_iconst (v := 0) hx hb d_T_shipped_124 (by decide) ?_
            exact blk_125 σ v3 0 _ _ _ I (lv_sub hl [0, 1, 2, 3] rfl) hΦ hZ hnd h3
          · rw [if_neg c_117] at hΦ
            refine lv_iconst (v := 1) hx hb d_T_shipped_120 (by decide) ?_
            refine lv_goto (tgt := 125) hx hb d_T_shipped_121 (by decide) ?_
            exact blk_125 σ v3 1 _ _ _ I (lv_sub hl [0, 1, 2, 3] rfl) hΦ hZ hnd h3
  rw [f_T_shipped] at hΦ
  refine lv_aload_n hx hb d_T_shipped_0 rfl (lv_at hl 1 rfl) ?_
  refine tGetG 3 X I (by decide) hd d_T_shipped_1 ?_
  refine lv_istore_n (lv' := [(3, .int (mg σ d 3)), (0, .ref (ad 0)), (1, .ref (ad (11 + d))), (2, .ref (ad (3 + n)))]) hx hb d_T_shipped_4 rfl hl (by decide) rfl (fun ls hl => ?_)
  refine lv_aload_n hx hb d_T_shipped_5 rfl (lv_at hl 3 rfl) ?_
  refine tGetN 4 X I rfl hn d_T_shipped_6 ?_
  refine lv_iload_n hx hb d_T_shipped_9 rfl (lv_at hl 0 rfl) ?_
  refine lv_icmp_ge (tgt := 29) hx hb d_T_shipped_10 (by decide) (fun c_10 => ?_) (fun c_10 => ?_)
  · rw [if_pos c_10] at hΦ
    refine lv_iload_n hx hb d_T_shipped_29 rfl (lv_at hl 0 rfl) ?_
    refine lv_if_le (tgt := 73) hx hb d_T_shipped_30 (by decide) (fun c_30 => ?_) (fun c_30 => ?_)
    · rw [if_pos c_30] at hΦ
      exact blk_73 σ (mg σ d 3) _ _ _ I (lv_sub hl [1, 2, 3, 0] rfl) hΦ hZ hnd hnum
    · rw [if_neg c_30] at hΦ
      have h31 : vp_in (mg σ d 3 - 1) 64 := by
        have h1 := c_30
        rw [n_le, n_0] at h1
        have h2 := iv hnum
        exact vi (by rw [n_sub (by rw [n_1]; omega) (by rw [n_1]; omega), n_1]; omega)
      refine lv_aload_n hx hb d_T_shipped_33 rfl (lv_at hl 3 rfl) ?_
      refine tGetNA 0 X I (by decide) hn d_T_shipped_34 ?_
      refine lv_iload_n hx hb d_T_shipped_37 rfl (lv_at hl 0 rfl) ?_
      refine lv_iconst (v := 1) hx hb d_T_shipped_38 (by decide) ?_
      refine lv_isub hx hb d_T_shipped_39 ?_
      refine tAld X I (by have := hn; omega) h31 d_T_shipped_40 ?_
      refine lv_aload_n hx hb d_T_shipped_41 rfl (lv_at hl 2 rfl) ?_
      refine tGetG 4 X I (by decide) hd d_T_shipped_42 ?_
      refine lv_icmp_eq (tgt := 73) hx hb d_T_shipped_45 (by decide) (fun c_45 => ?_) (fun c_45 => ?_)
      · rw [if_pos c_45] at hΦ
        exact blk_73 σ (mg σ d 3) _ _ _ I (lv_sub hl [1, 2, 3, 0] rfl) hΦ hZ hnd hnum
      · rw [if_neg c_45] at hΦ
        refine lv_aload_n hx hb d_T_shipped_48 rfl (lv_at hl 3 rfl) ?_
        refine lv_iload_n hx hb d_T_shipped_49 rfl (lv_at hl 0 rfl) ?_
        refine lv_iconst (v := 1) hx hb d_T_shipped_50 (by decide) ?_
        refine lv_isub hx hb d_T_shipped_51 ?_
        refine goIf (wf := wT ca ad) I (rN hn X I [.int ((mg σ d 3) - 1)] (c_N_cut l D ca ad A σ n ((mg σ d 3) - 1) hn) k_T_111 rfl hl rfl ⟨Nat.le_of_ble_eq_true rfl, Nat.le_of_ble_eq_true rfl⟩ (Nat.le_of_ble_eq_true rfl) ⟨Nat.le_refl 0, Nat.le_refl 0⟩ d_T_shipped_52) (fun H locs I => ?_)
        refine lv_if_eq (tgt := 71) hx hb d_T_shipped_55 (by decide) (fun c_55 => ?_) (fun c_55 => ?_)
        · rw [if_pos c_55] at hΦ
          refine lv_iconst (v := 1) hx hb d_T_shipped_71 (by decide) ?_
          exact hret _ _ _ _ _ _ I hΦ d_T_shipped_72
        · rw [if_neg c_55] at hΦ
          refine lv_aload_n hx hb d_T_shipped_58 rfl (lv_at hl 1 rfl) ?_
          refine lv_aload_n hx hb d_T_shipped_59 rfl (lv_at hl 2 rfl) ?_
          refine tGetG 1 X I (by decide) hd d_T_shipped_60 ?_
          refine lv_iconst (v := 3) hx hb d_T_shipped_63 (by decide) ?_
          refine lv_iload_n hx hb d_T_shipped_64 rfl (lv_at hl 0 rfl) ?_
          refine lv_iconst (v := 1) hx hb d_T_shipped_65 (by decide) ?_
          refine lv_isub hx hb d_T_shipped_66 ?_
          refine goQx (wf := wT ca ad) I (rT X I [.int (mg (f_N_cut σ n ((mg σ d 3) - 1)).2 d 1), .int 3, .int ((mg σ d 3) - 1)] (c_T_send l D ca ad A (f_N_cut σ n ((mg σ d 3) - 1)).2 (mg (f_N_cut σ n ((mg σ d 3) - 1)).2 d 1) 3 ((mg σ d 3) - 1) (hZ.of cut_k) (by rw [cut_k.2.2]; exact hnd)) k_T_44 rfl hl rfl ⟨Nat.le_of_ble_eq_true rfl, Nat.le_of_ble_eq_true rfl⟩ (Nat.le_of_ble_eq_true rfl) ⟨Nat.le_refl 0, Nat.le_refl 0⟩ d_T_shipped_67) (fun v hv H locs I => ?_)
          refine lv_pop hx hb d_T_shipped_70 hv ?_
          refine lv_iconst (v := 1) hx hb d_T_shipped_71 (by decide) ?_
          exact hret _ _ _ _ _ _ I hΦ d_T_shipped_72
  · rw [if_neg c_10] at hΦ
    refine lv_aload_n hx hb d_T_shipped_13 rfl (lv_at hl 1 rfl) ?_
    refine lv_aload_n hx hb d_T_shipped_14 rfl (lv_at hl 2 rfl) ?_
    refine tGetG 1 X I (by decide) hd d_T_shipped_15 ?_
    refine lv_iconst (v := 3) hx hb d_T_shipped_18 (by decide) ?_
    refine lv_aload_n hx hb d_T_shipped_19 rfl (lv_at hl 3 rfl) ?_
    refine tGetN 4 X I rfl hn d_T_shipped_20 ?_
    refine goQx (wf := wT ca ad) I (rT X I [.int (mg σ d 1), .int 3, .int (nf σ n 4)] (c_T_send l D ca ad A σ (mg σ d 1) 3 (nf σ n 4) hZ hnd) k_T_44 rfl hl rfl ⟨Nat.le_of_ble_eq_true rfl, Nat.le_of_ble_eq_true rfl⟩ (Nat.le_of_ble_eq_true rfl) ⟨Nat.le_refl 0, Nat.le_refl 0⟩ d_T_shipped_23) (fun v hv H locs I => ?_)
    refine lv_pop hx hb d_T_shipped_26 hv ?_
    refine lv_iconst (v := 1) hx hb d_T_shipped_27 (by decide) ?_
    exact hret _ _ _ _ _ _ I hΦ d_T_shipped_28
def f_T_acked (σ : St) (d : Nat) (n : Nat) : St := (if (nf (sn σ n 7 (if (nf σ n 7) < (mg σ d 3) then (mg σ d 3) else (nf σ n 7))) n 4) ≤ ((mg (sn σ n 7 (if (nf σ n 7) < (mg σ d 3) then (mg σ d 3) else (nf σ n 7))) d 3) + 1) then (sn σ n 7 (if (nf σ n 7) < (mg σ d 3) then (mg σ d 3) else (nf σ n 7))) else (f_T_ship (sn σ n 7 (if (nf σ n 7) < (mg σ d 3) then (mg σ d 3) else (nf σ n 7))) (mg (sn σ n 7 (if (nf σ n 7) < (mg σ d 3) then (mg σ d 3) else (nf σ n 7))) d 1) ((mg (sn σ n 7 (if (nf σ n 7) < (mg σ d 3) then (mg σ d 3) else (nf σ n 7))) d 3) + 1)))
set_option maxHeartbeats 4000000 in
set_option maxRecDepth 100000 in
theorem c_T_acked (l : Launch) (D : va_G) (ca : Nat → ClassId) (ad : Nat → Nat) (A : Nat → Prop) (σ : St) (d : Nat) (n : Nat) (hZ : Bz σ) (hd : d < 17) (hn : n < 2) (hnd : vp_in (mg σ d 1) 2) (hnum : vp_in (mg σ d 3) 64) (hlen : (nf σ n 4).toInt ≤ 64) : Met l y_T_acked (Cond.code y_T_acked b_T_acked 3 none :: BASE) (rmK 2) (va_Pc [.ref (ad 0), .ref (ad (11 + d)), .ref (ad (3 + n))] (Pre D (tysT ca) A (wT ca ad σ))) (va_Qv (fun u => u = f_T_acked σ d n) (Pst D A (wT ca ad)) A) 0 0 A := by
  refine enterVx (by decide) (Nat.le_of_ble_eq_true rfl) ?_
  intro Φ hΦ p e s m args below meth c Q X hret I ls hl
  have hx := X.x
  have hb := X.b
  have hl : lv_has ls 3 [(0, .ref (ad 0)), (1, .ref (ad (11 + d))), (2, .ref (ad (3 + n)))] := hl
  rw [f_T_acked] at hΦ
  refine lv_aload_n hx hb d_T_acked_0 rfl (lv_at hl 2 rfl) ?_
  refine lv_aload_n hx hb d_T_acked_1 rfl (lv_at hl 2 rfl) ?_
  refine tGetN 7 X I rfl hn d_T_acked_2 ?_
  refine lv_aload_n hx hb d_T_acked_5 rfl (lv_at hl 1 rfl) ?_
  refine tGetG 3 X I (by decide) hd d_T_acked_6 ?_
  refine mxT X hl ⟨Nat.le_of_ble_eq_true rfl, Nat.le_of_ble_eq_true rfl⟩ ⟨Nat.le_refl 0, Nat.le_refl 0⟩ d_T_acked_9 ?_
  refine tPutN 7 X I rfl hn rfl rfl d_T_acked_12 (fun H locs I => ?_)
  refine lv_aload_n hx hb d_T_acked_15 rfl (lv_at hl 1 rfl) ?_
  refine tGetG 3 X I (by decide) hd d_T_acked_16 ?_
  refine lv_iconst (v := 1) hx hb d_T_acked_19 (by decide) ?_
  refine lv_iadd hx hb d_T_acked_20 ?_
  refine lv_aload_n hx hb d_T_acked_21 rfl (lv_at hl 2 rfl) ?_
  refine tGetN 4 X I rfl hn d_T_acked_22 ?_
  refine lv_icmp_ge (tgt := 42) hx hb d_T_acked_25 (by decide) (fun c_25 => ?_) (fun c_25 => ?_)
  · rw [if_pos c_25] at hΦ
    exact hret _ _ _ _ _ I hΦ d_T_acked_42
  · rw [if_neg c_25] at hΦ
    have hq : vp_in (mg σ d 3 + 1) 64 := by
      have h1 := c_25
      rw [n_le] at h1
      have h2 := iv hnum
      have e1 : (mg σ d 3 + 1).toInt = (mg σ d 3).toInt + 1 := by rw [n_add (by rw [n_1]; omega) (by rw [n_1]; omega), n_1]
      have h3 : ¬ (nf σ n 4).toInt ≤ (mg σ d 3 + 1).toInt := by rw [show nf σ n 4 = nf (sn σ n 7 (if (nf σ n 7) < (mg σ d 3) then (mg σ d 3) else (nf σ n 7))) n 4 by simp [nf, sn, up2]]; exact h1
      exact vi (by rw [e1] at h3 ⊢; omega)
    refine lv_aload_n hx hb d_T_acked_28 rfl (lv_at hl 0 rfl) ?_
    refine lv_aload_n hx hb d_T_acked_29 rfl (lv_at hl 1 rfl) ?_
    refine tGetG 1 X I (by decide) hd d_T_acked_30 ?_
    refine lv_aload_n hx hb d_T_acked_33 rfl (lv_at hl 1 rfl) ?_
    refine tGetG 3 X I (by decide) hd d_T_acked_34 ?_
    refine lv_iconst (v := 1) hx hb d_T_acked_37 (by decide) ?_
    refine lv_iadd hx hb d_T_acked_38 ?_
    refine goVf (wf := wT ca ad) I (rT X I [.int (mg (sn σ n 7 (if (nf σ n 7) < (mg σ d 3) then (mg σ d 3) else (nf σ n 7))) d 1), .int ((mg (sn σ n 7 (if (nf σ n 7) < (mg σ d 3) then (mg σ d 3) else (nf σ n 7))) d 3) + 1)] (c_T_ship l D ca ad A (sn σ n 7 (if (nf σ n 7) < (mg σ d 3) then (mg σ d 3) else (nf σ n 7))) (mg (sn σ n 7 (if (nf σ n 7) < (mg σ d 3) then (mg σ d 3) else (nf σ n 7))) d 1) ((mg (sn σ n 7 (if (nf σ n 7) < (mg σ d 3) then (mg σ d 3) else (nf σ n 7))) d 3) + 1) hZ hnd hq) k_T_89 rfl hl rfl ⟨Nat.le_of_ble_eq_true rfl, Nat.le_of_ble_eq_true rfl⟩ (Nat.le_of_ble_eq_true rfl) ⟨Nat.le_refl 0, Nat.le_refl 0⟩ d_T_acked_39) (fun H locs I => ?_)
    exact hret _ _ _ _ _ I hΦ d_T_acked_42
def f_T_wanted (σ : St) (d : Nat) (n : Nat) : St := (if (mg σ d 3) < 0 then σ else (if (nf σ n 4) = 0 then σ else (f_T_ship σ (mg σ d 1) (if ((nf σ n 4) - 1) < (mg σ d 3) then ((nf σ n 4) - 1) else (mg σ d 3)))))
set_option maxHeartbeats 4000000 in
set_option maxRecDepth 100000 in
theorem c_T_wanted (l : Launch) (D : va_G) (ca : Nat → ClassId) (ad : Nat → Nat) (A : Nat → Prop) (σ : St) (d : Nat) (n : Nat) (hZ : Bz σ) (hd : d < 17) (hn : n < 2) (hnd : vp_in (mg σ d 1) 2) (hlen : 0 ≤ (nf σ n 4).toInt ∧ (nf σ n 4).toInt ≤ 64) : Met l y_T_wanted (Cond.code y_T_wanted b_T_wanted 3 none :: BASE) (rmK 2) (va_Pc [.ref (ad 0), .ref (ad (11 + d)), .ref (ad (3 + n))] (Pre D (tysT ca) A (wT ca ad σ))) (va_Qv (fun u => u = f_T_wanted σ d n) (Pst D A (wT ca ad)) A) 0 0 A := by
  refine enterVx (by decide) (Nat.le_of_ble_eq_true rfl) ?_
  intro Φ hΦ p e s m args below meth c Q X hret I ls hl
  have hx := X.x
  have hb := X.b
  have hl : lv_has ls 3 [(0, .ref (ad 0)), (1, .ref (ad (11 + d))), (2, .ref (ad (3 + n)))] := hl
  rw [f_T_wanted] at hΦ
  refine lv_aload_n hx hb d_T_wanted_0 rfl (lv_at hl 1 rfl) ?_
  refine tGetG 3 X I (by decide) hd d_T_wanted_1 ?_
  refine lv_if_lt (tgt := 14) hx hb d_T_wanted_4 (by decide) (fun c_4 => ?_) (fun c_4 => ?_)
  · rw [if_pos c_4] at hΦ
    exact hret _ _ _ _ _ I hΦ d_T_wanted_14
  · rw [if_neg c_4] at hΦ
    refine lv_aload_n hx hb d_T_wanted_7 rfl (lv_at hl 2 rfl) ?_
    refine tGetN 4 X I rfl hn d_T_wanted_8 ?_
    refine lv_if_ne (tgt := 15) hx hb d_T_wanted_11 (by decide) (fun c_11 => ?_) (fun c_11 => ?_)
    · rw [if_neg c_11] at hΦ
      have hq : vp_in (if (nf σ n 4 - 1) < (mg σ d 3) then (nf σ n 4 - 1) else (mg σ d 3)) 64 := by
        have h1 := c_4
        rw [n_lt, n_0] at h1
        have h2 := c_11
        rw [n_eq, n_0] at h2
        have e1 : (nf σ n 4 - 1).toInt = (nf σ n 4).toInt - 1 := by rw [n_sub (by rw [n_1]; omega) (by rw [n_1]; omega), n_1]
        split
        · exact vi (by rw [e1]; omega)
        · rename_i h5
          rw [n_lt, e1] at h5
          exact vi ⟨by omega, by omega⟩
      refine lv_aload_n hx hb d_T_wanted_15 rfl (lv_at hl 0 rfl) ?_
      refine lv_aload_n hx hb d_T_wanted_16 rfl (lv_at hl 1 rfl) ?_
      refine tGetG 1 X I (by decide) hd d_T_wanted_17 ?_
      refine lv_aload_n hx hb d_T_wanted_20 rfl (lv_at hl 1 rfl) ?_
      refine tGetG 3 X I (by decide) hd d_T_wanted_21 ?_
      refine lv_aload_n hx hb d_T_wanted_24 rfl (lv_at hl 2 rfl) ?_
      refine tGetN 4 X I rfl hn d_T_wanted_25 ?_
      refine lv_iconst (v := 1) hx hb d_T_wanted_28 (by decide) ?_
      refine lv_isub hx hb d_T_wanted_29 ?_
      refine mnT X hl ⟨Nat.le_of_ble_eq_true rfl, Nat.le_of_ble_eq_true rfl⟩ ⟨Nat.le_refl 0, Nat.le_refl 0⟩ d_T_wanted_30 ?_
      refine goVf (wf := wT ca ad) I (rT X I [.int (mg σ d 1), .int (if ((nf σ n 4) - 1) < (mg σ d 3) then ((nf σ n 4) - 1) else (mg σ d 3))] (c_T_ship l D ca ad A σ (mg σ d 1) (if ((nf σ n 4) - 1) < (mg σ d 3) then ((nf σ n 4) - 1) else (mg σ d 3)) hZ hnd hq) k_T_89 rfl hl rfl ⟨Nat.le_of_ble_eq_true rfl, Nat.le_of_ble_eq_true rfl⟩ (Nat.le_of_ble_eq_true rfl) ⟨Nat.le_refl 0, Nat.le_refl 0⟩ d_T_wanted_33) (fun H locs I => ?_)
      exact hret _ _ _ _ _ I hΦ d_T_wanted_36
    · rw [if_pos c_11] at hΦ
      exact hret _ _ _ _ _ I hΦ d_T_wanted_14
theorem take_9k (fuel : Nat) : ∀ (σ : St) (d : Nat) (v3 : Int32), (f_T_take_9 fuel σ d v3).1 = (if fuel = 0 then 0 else (f_T_take_9 fuel σ d v3).1) ∧ nf (f_T_take_9 fuel σ d v3).2 = nf σ ∧ ar (f_T_take_9 fuel σ d v3).2 = ar σ ∧ mg (f_T_take_9 fuel σ d v3).2 = mg σ := by
  induction fuel with
  | zero => intro σ d v3; exact ⟨rfl, rfl, rfl, rfl⟩
  | succ fuel ih =>
    intro σ d v3
    refine ⟨by rw [if_neg (Nat.succ_ne_zero _)], ?_⟩
    rw [f_T_take_9]
    split
    · exact ⟨rfl, rfl, rfl⟩
    · exact (ih _ _ _).2
end
section
/-- take, closed -/
def tkL (f : Nat → Nat) (k d : Nat) : Nat → Nat := fun i => if i < k then f i else if i < 16 then f (i + 1) else if i = 16 then d else f i
theorem take_9c (fuel : Nat) : ∀ (σ : St) (d k : Nat), k ≤ 16 → 16 - k < fuel → f_T_take_9 fuel σ d (nI k) = (d, (zs σ - 1, σ.2.1, σ.2.2.1, σ.2.2.2.1, tkL (lk σ) k d)) := by
  induction fuel with
  | zero => intro σ d k h1 h2; exact absurd h2 (by omega)
  | succ fuel ih =>
    intro σ d k h1 h2
    rw [f_T_take_9]
    have e16 : (16 : Int32) = nI 16 := rfl
    by_cases hk : k = 16
    · subst hk
      rw [if_pos (by rw [e16, nI_leI (by decide) (by decide)]; exact Nat.le_refl _)]
      have e : lk (sl σ (16 : Int32).toNatClampNeg d) = tkL (lk σ) 16 d := by
        funext i
        have e2 : (16 : Int32).toNatClampNeg = 16 := by decide
        rw [e2]
        simp only [lk, sl, va_up, tkL]
        by_cases h3 : i = 16
        · subst h3; simp
        · rw [if_neg h3]
          by_cases h4 : i < 16
          · rw [if_pos h4]
          · rw [if_neg h4, if_neg h4]
      rw [← e]
      rfl
    · rw [if_neg (by rw [e16, nI_leI (by decide) (by omega)]; omega)]
      have e1 : nI k + 1 = nI (k + 1) := nI_1 k
      rw [e1, nI_clamp (by omega), nI_clamp (by omega), ih _ d (k + 1) (by omega) (by omega)]
      have e : tkL (lk (sl σ k (lk σ (k + 1)))) (k + 1) d = tkL (lk σ) k d := by
        funext i
        simp only [lk, sl, va_up, tkL]
        by_cases h3 : i < k
        · rw [if_pos (by omega), if_neg (by omega), if_pos h3]
        · rw [if_neg h3]
          by_cases h4 : i = k
          · subst h4
            rw [if_pos (by omega), if_pos rfl, if_pos (by omega)]
          · rw [if_neg (by omega)]
            by_cases h5 : i < 16
            · rw [if_pos h5, if_pos h5, if_neg (by omega)]
            · rw [if_neg h5, if_neg h5, if_neg h4]
      rw [e]
      rfl
theorem take_c {σ : St} {k : Nat} (h : k < 17) : f_T_take σ (nI k) = (lk σ k, (zs σ - 1, σ.2.1, σ.2.2.1, σ.2.2.2.1, tkL (lk σ) k (lk σ k))) := by
  rw [f_T_take, take_9c 18 σ _ k (by omega) (by omega), nI_clamp (by omega)]
theorem tkL_b {f : Nat → Nat} {k d : Nat} (h : ∀ i, i < 17 → f i < 17) (hd : d < 17) : ∀ i, i < 17 → tkL f k d i < 17 := by
  intro i hi
  unfold tkL
  split
  · exact h i hi
  · split
    · exact h _ (by omega)
    · split
      · exact hd
      · exact h i hi
theorem take_Bz {σ : St} (h : Bz σ) (h0 : ¬ zs σ = 0) : Bz (f_T_take σ 0).2 := by
  have e0 : (0 : Int32) = nI 0 := rfl
  rw [n_eq, n_0] at h0
  rw [e0, take_c (by decide)]
  have h1 := h.1
  refine ⟨?_, tkL_b (k := 0) (d := lk σ 0) h.2 (h.2 0 (by decide))⟩
  show 0 ≤ (zs σ - 1).toInt ∧ (zs σ - 1).toInt ≤ 16
  rw [n_sub (by rw [n_1]; omega) (by rw [n_1]; omega), n_1]
  omega
theorem take_0 {σ : St} : (f_T_take σ 0).1 = lk σ 0 ∧ nf (f_T_take σ 0).2 = nf σ ∧ mg (f_T_take σ 0).2 = mg σ := by
  have e0 : (0 : Int32) = nI 0 := rfl
  rw [e0, take_c (by decide)]
  exact ⟨rfl, rfl, rfl⟩
/-- what pump needs of the message that comes -/
def Mk (σ : St) (d : Nat) : Prop := vp_in (mg σ d 1) 2 ∧ (mg σ d 0 = 1 → vp_in (mg σ d 3) 64) ∧ (mg σ d 0 = 2 → vp_in (mg σ d 3) 64)
theorem Bs.bec {σ : St} {n : Nat} {t : Int32} (h : Bs σ) : Bs (f_N_becomes σ n t).2 := ⟨h.1.of bec_k, fun q hq => by rw [bec_len]; exact h.2 q hq⟩
theorem Mk.of {σ σ' : St} {d : Nat} (h : Mk σ d) (k : mg σ' = mg σ) : Mk σ' d := by
  unfold Mk
  rw [k]
  exact h
def f_T_pump_105 (σ : St) (d : Nat) (n : Nat) : Int32 × St := (if (mg σ d 0) = 1 then (if (nf σ n 6) = 0 then ((f_T_shipped σ d n).1, (f_T_shipped σ d n).2) else (((mg σ d 0) + 20), σ)) else (if (nf σ n 6) = 0 then (((mg σ d 0) + 20), σ) else (if (mg σ d 0) = 2 then ((mg (f_T_acked σ d n) d 0), (f_T_acked σ d n)) else ((mg (f_T_wanted σ d n) d 0), (f_T_wanted σ d n)))))
def f_T_pump (σ : St) : Int32 × St := (if (zs σ) = 0 then (0, σ) else (if (nf (f_T_take σ 0).2 ((mg (f_T_take σ 0).2 ((f_T_take σ 0).1) 1).toNatClampNeg) 5) = 0 then (((mg (f_T_take σ 0).2 ((f_T_take σ 0).1) 0) + 10), (f_T_take σ 0).2) else (if (nf (f_T_take σ 0).2 ((mg (f_T_take σ 0).2 ((f_T_take σ 0).1) 1).toNatClampNeg) 0) ≤ (mg (f_T_take σ 0).2 ((f_T_take σ 0).1) 2) then (if (mg (f_T_take σ 0).2 ((f_T_take σ 0).1) 2) ≤ (nf (f_T_take σ 0).2 ((mg (f_T_take σ 0).2 ((f_T_take σ 0).1) 1).toNatClampNeg) 0) then (f_T_pump_105 (f_T_take σ 0).2 ((f_T_take σ 0).1) ((mg (f_T_take σ 0).2 ((f_T_take σ 0).1) 1).toNatClampNeg)) else (if (f_N_becomes (f_T_take σ 0).2 ((mg (f_T_take σ 0).2 ((f_T_take σ 0).1) 1).toNatClampNeg) (mg (f_T_take σ 0).2 ((f_T_take σ 0).1) 2)).1 = 0 then ((mg (f_N_becomes (f_T_take σ 0).2 ((mg (f_T_take σ 0).2 ((f_T_take σ 0).1) 1).toNatClampNeg) (mg (f_T_take σ 0).2 ((f_T_take σ 0).1) 2)).2 ((f_T_take σ 0).1) 0), (f_N_becomes (f_T_take σ 0).2 ((mg (f_T_take σ 0).2 ((f_T_take σ 0).1) 1).toNatClampNeg) (mg (f_T_take σ 0).2 ((f_T_take σ 0).1) 2)).2) else (f_T_pump_105 (f_N_becomes (f_T_take σ 0).2 ((mg (f_T_take σ 0).2 ((f_T_take σ 0).1) 1).toNatClampNeg) (mg (f_T_take σ 0).2 ((f_T_take σ 0).1) 2)).2 ((f_T_take σ 0).1) ((mg (f_T_take σ 0).2 ((f_T_take σ 0).1) 1).toNatClampNeg)))) else (if (mg (f_T_take σ 0).2 ((f_T_take σ 0).1) 0) = 1 then (((mg (f_T_send (f_T_take σ 0).2 (mg (f_T_take σ 0).2 ((f_T_take σ 0).1) 1) 3 (-1)).2 ((f_T_take σ 0).1) 0) + 20), (f_T_send (f_T_take σ 0).2 (mg (f_T_take σ 0).2 ((f_T_take σ 0).1) 1) 3 (-1)).2) else (((mg (f_T_take σ 0).2 ((f_T_take σ 0).1) 0) + 20), (f_T_take σ 0).2)))))
set_option maxHeartbeats 4000000 in
set_option maxRecDepth 100000 in
theorem c_T_pump (l : Launch) (D : va_G) (ca : Nat → ClassId) (ad : Nat → Nat) (A : Nat → Prop) (σ : St) (hB : Bs σ) (hM : ¬ zs σ = 0 → Mk σ (lk σ 0)) : Met l y_T_pump (Cond.code y_T_pump b_T_pump 3 (some .int) :: BASE) (rmK 4) (va_Pc [.ref (ad 0)] (Pre D (tysT ca) A (wT ca ad σ))) (va_Qi (fun r u => (r, u) = f_T_pump σ) (Pst D A (wT ca ad)) A) 0 0 A := by
  refine enterIx (by decide) (Nat.le_of_ble_eq_true rfl) ?_
  intro Φ hΦ p e s m args below meth c Q X hret I ls hl
  have hx := X.x
  have hb := X.b
  have hl : lv_has ls 3 [(0, .ref (ad 0))] := hl
  have blk_105 : ∀ (σ : St) (d : Nat) (n : Nat) (H : Heap) (locs : List Loc) (ls : Array Slot), In D A s.heap (wT ca ad σ) H locs → lv_has ls 3 [(0, .ref (ad 0)), (1, .ref (ad (11 + d))), (2, .ref (ad (3 + n)))] → Φ (f_T_pump_105 σ d n) → (Bs σ) → (d < 17) → (n < 2) → (Mk σ d) → W p l e (rmK 4) s m args below meth c H locs 0 0 Q (F0 m 105 ls []) := by
    intro σ d n H locs ls I hl hΦ hB hd hn hM
    rw [f_T_pump_105] at hΦ
    refine lv_aload_n hx hb d_T_pump_105 rfl (lv_at hl 1 rfl) ?_
    refine tGetG 0 X I (by decide) hd d_T_pump_106 ?_
    refine lv_iconst (v := 1) hx hb d_T_pump_109 (by decide) ?_
    refine lv_icmp_ne (tgt := 137) hx hb d_T_pump_110 (by decide) (fun c_110 => ?_) (fun c_110 => ?_)
    · rw [if_neg c_110] at hΦ
      refine lv_aload_n hx hb d_T_pump_137 rfl (lv_at hl 2 rfl) ?_
      refine tGetN 6 X I rfl hn d_T_pump_138 ?_
      refine lv_if_ne (tgt := 152) hx hb d_T_pump_141 (by decide) (fun c_141 => ?_) (fun c_141 => ?_)
      · rw [if_neg c_141] at hΦ
        refine lv_aload_n hx hb d_T_pump_152 rfl (lv_at hl 1 rfl) ?_
        refine tGetG 0 X I (by decide) hd d_T_pump_153 ?_
        refine lv_iconst (v := 2) hx hb d_T_pump_156 (by decide) ?_
        refine lv_icmp_ne (tgt := 169) hx hb d_T_pump_157 (by decide) (fun c_157 => ?_) (fun c_157 => ?_)
        · rw [if_neg c_157] at hΦ
          refine lv_aload_n hx hb d_T_pump_169 rfl (lv_at hl 0 rfl) ?_
          refine lv_aload_n hx hb d_T_pump_170 rfl (lv_at hl 1 rfl) ?_
          refine lv_aload_n hx hb d_T_pump_171 rfl (lv_at hl 2 rfl) ?_
          refine goVf (wf := wT ca ad) I (rT X I [.ref (ad (11 + d)), .ref (ad (3 + n))] (c_T_wanted l D ca ad A σ d n hB.1 hd hn hM.1 (hB.2 _ hn)) k_T_108 rfl hl rfl ⟨Nat.le_of_ble_eq_true rfl, Nat.le_of_ble_eq_true rfl⟩ (Nat.le_of_ble_eq_true rfl) ⟨Nat.le_refl 0, Nat.le_refl 0⟩ d_T_pump_172) (fun H locs I => ?_)
          refine lv_aload_n hx hb d_T_pump_175 rfl (lv_at hl 1 rfl) ?_
          refine tGetG 0 X I (by decide) hd d_T_pump_176 ?_
          exact hret _ _ _ _ _ _ I hΦ d_T_pump_179
        · rw [if_pos c_157] at hΦ
          refine lv_aload_n hx hb d_T_pump_160 rfl (lv_at hl 0 rfl) ?_
          refine lv_aload_n hx hb d_T_pump_161 rfl (lv_at hl 1 rfl) ?_
          refine lv_aload_n hx hb d_T_pump_162 rfl (lv_at hl 2 rfl) ?_
          refine goVf (wf := wT ca ad) I (rT X I [.ref (ad (11 + d)), .ref (ad (3 + n))] (c_T_acked l D ca ad A σ d n hB.1 hd hn hM.1 (hM.2.2 c_157) (hB.2 _ hn).2) k_T_104 rfl hl rfl ⟨Nat.le_of_ble_eq_true rfl, Nat.le_of_ble_eq_true rfl⟩ (Nat.le_of_ble_eq_true rfl) ⟨Nat.le_refl 0, Nat.le_refl 0⟩ d_T_pump_163) (fun H locs I => ?_)
          refine lv_goto (tgt := 175) hx hb d_T_pump_166 (by decide) ?_
          refine lv_aload_n hx hb d_T_pump_175 rfl (lv_at hl 1 rfl) ?_
          refine tGetG 0 X I (by decide) hd d_T_pump_176 ?_
          exact hret _ _ _ _ _ _ I hΦ d_T_pump_179
      · rw [if_pos c_141] at hΦ
        refine lv_aload_n hx hb d_T_pump_144 rfl (lv_at hl 1 rfl) ?_
        refine tGetG 0 X I (by decide) hd d_T_pump_145 ?_
        refine lv_bipush (v := 20) hx hb d_T_pump_148 (by decide) ?_
        refine lv_iadd hx hb d_T_pump_150 ?_
        exact hret _ _ _ _ _ _ I hΦ d_T_pump_151
    · rw [if_pos c_110] at hΦ
      refine lv_aload_n hx hb d_T_pump_113 rfl (lv_at hl 2 rfl) ?_
      refine tGetN 6 X I rfl hn d_T_pump_114 ?_
      refine lv_if_eq (tgt := 130) hx hb d_T_pump_117 (by decide) (fun c_117 => ?_) (fun c_117 => ?_)
      · rw [if_pos c_117] at hΦ
        refine lv_aload_n hx hb d_T_pump_130 rfl (lv_at hl 0 rfl) ?_
        refine lv_aload_n hx hb d_T_pump_131 rfl (lv_at hl 1 rfl) ?_
        refine lv_aload_n hx hb d_T_pump_132 rfl (lv_at hl 2 rfl) ?_
        refine goIf (wf := wT ca ad) I (rT X I [.ref (ad (11 + d)), .ref (ad (3 + n))] (c_T_shipped l D ca ad A σ d n hB.1 hd hn hM.1 (hM.2.1 c_110)) k_T_100 rfl hl rfl ⟨Nat.le_of_ble_eq_true rfl, Nat.le_of_ble_eq_true rfl⟩ (Nat.le_of_ble_eq_true rfl) ⟨Nat.le_refl 0, Nat.le_refl 0⟩ d_T_pump_133) (fun H locs I => ?_)
        exact hret _ _ _ _ _ _ I hΦ d_T_pump_136
      · rw [if_neg c_117] at hΦ
        refine lv_aload_n hx hb d_T_pump_120 rfl (lv_at hl 1 rfl) ?_
        refine tGetG 0 X I (by decide) hd d_T_pump_121 ?_
        refine lv_bipush (v := 20) hx hb d_T_pump_124 (by decide) ?_
        refine lv_iadd hx hb d_T_pump_126 ?_
        refine lv_goto (tgt := 136) hx hb d_T_pump_127 (by decide) ?_
        exact hret _ _ _ _ _ _ I hΦ d_T_pump_136
  rw [f_T_pump] at hΦ
  refine lv_aload_n hx hb d_T_pump_0 rfl (lv_at hl 0 rfl) ?_
  refine tGetSize X I d_T_pump_1 ?_
  refine lv_if_ne (tgt := 9) hx hb d_T_pump_4 (by decide) (fun c_4 => ?_) (fun c_4 => ?_)
  · rw [if_neg c_4] at hΦ
    refine lv_aload_n hx hb d_T_pump_9 rfl (lv_at hl 0 rfl) ?_
    refine lv_iconst (v := 0) hx hb d_T_pump_10 (by decide) ?_
    refine goRf (wf := wT ca ad) I (rT X I [.int 0] (c_T_take l D ca ad A σ 0 hB.1 (vi (by decide))) k_T_93 rfl hl rfl ⟨Nat.le_of_ble_eq_true rfl, Nat.le_of_ble_eq_true rfl⟩ (Nat.le_of_ble_eq_true rfl) ⟨Nat.le_refl 0, Nat.le_refl 0⟩ d_T_pump_11) (fun H locs I => ?_)
    refine lv_astore_n (lv' := [(1, .ref (ad (11 + ((f_T_take σ 0).1)))), (0, .ref (ad 0))]) hx hb d_T_pump_14 rfl hl (by decide) rfl (fun ls hl => ?_)
    have t0 := @take_0 σ
    have hz1 := take_Bz hB.1 c_4
    have hd1 : (f_T_take σ 0).1 < 17 := by rw [t0.1]; exact hB.1.2 0 (by decide)
    have hM1 : Mk (f_T_take σ 0).2 (f_T_take σ 0).1 := by rw [t0.1]; exact (hM c_4).of t0.2.2
    have hB1 : Bs (f_T_take σ 0).2 := ⟨hz1, fun q hq => by rw [t0.2.1]; exact hB.2 q hq⟩
    refine lv_aload_n hx hb d_T_pump_15 rfl (lv_at hl 1 rfl) ?_
    refine tGetNodes X I d_T_pump_16 ?_
    refine lv_aload_n hx hb d_T_pump_19 rfl (lv_at hl 0 rfl) ?_
    refine tGetG 1 X I (by decide) hd1 d_T_pump_20 ?_
    refine tNode X I hM1.1 d_T_pump_23 ?_
    refine lv_astore_n (lv' := [(2, .ref (ad (3 + ((mg (f_T_take σ 0).2 ((f_T_take σ 0).1) 1).toNatClampNeg)))), (1, .ref (ad (11 + ((f_T_take σ 0).1)))), (0, .ref (ad 0))]) hx hb d_T_pump_24 rfl hl (by decide) rfl (fun ls hl => ?_)
    refine lv_aload_n hx hb d_T_pump_25 rfl (lv_at hl 0 rfl) ?_
    refine tGetN 5 X I rfl (vlt hM1.1) d_T_pump_26 ?_
    refine lv_if_ne (tgt := 40) hx hb d_T_pump_29 (by decide) (fun c_29 => ?_) (fun c_29 => ?_)
    · rw [if_neg c_29] at hΦ
      refine lv_aload_n hx hb d_T_pump_40 rfl (lv_at hl 1 rfl) ?_
      refine tGetG 2 X I (by decide) hd1 d_T_pump_41 ?_
      refine lv_aload_n hx hb d_T_pump_44 rfl (lv_at hl 0 rfl) ?_
      refine tGetN 0 X I rfl (vlt hM1.1) d_T_pump_45 ?_
      refine lv_icmp_ge (tgt := 78) hx hb d_T_pump_48 (by decide) (fun c_48 => ?_) (fun c_48 => ?_)
      · rw [if_pos c_48] at hΦ
        refine lv_aload_n hx hb d_T_pump_78 rfl (lv_at hl 1 rfl) ?_
        refine tGetG 2 X I (by decide) hd1 d_T_pump_79 ?_
        refine lv_aload_n hx hb d_T_pump_82 rfl (lv_at hl 0 rfl) ?_
        refine tGetN 0 X I rfl (vlt hM1.1) d_T_pump_83 ?_
        refine lv_icmp_le (tgt := 105) hx hb d_T_pump_86 (by decide) (fun c_86 => ?_) (fun c_86 => ?_)
        · rw [if_pos c_86] at hΦ
          exact blk_105 (f_T_take σ 0).2 ((f_T_take σ 0).1) ((mg (f_T_take σ 0).2 ((f_T_take σ 0).1) 1).toNatClampNeg) _ _ _ I (lv_sub hl [2, 1, 0] rfl) hΦ hB1 hd1 (vlt hM1.1) hM1
        · rw [if_neg c_86] at hΦ
          refine lv_aload_n hx hb d_T_pump_89 rfl (lv_at hl 0 rfl) ?_
          refine lv_aload_n hx hb d_T_pump_90 rfl (lv_at hl 1 rfl) ?_
          refine tGetG 2 X I (by decide) hd1 d_T_pump_91 ?_
          refine goIf (wf := wT ca ad) I (rN (vlt hM1.1) X I [.int (mg (f_T_take σ 0).2 ((f_T_take σ 0).1) 2)] (c_N_becomes l D ca ad A (f_T_take σ 0).2 ((mg (f_T_take σ 0).2 ((f_T_take σ 0).1) 1).toNatClampNeg) (mg (f_T_take σ 0).2 ((f_T_take σ 0).1) 2) (vlt hM1.1)) k_T_97 rfl hl rfl ⟨Nat.le_of_ble_eq_true rfl, Nat.le_of_ble_eq_true rfl⟩ (Nat.le_of_ble_eq_true rfl) ⟨Nat.le_refl 0, Nat.le_refl 0⟩ d_T_pump_94) (fun H locs I => ?_)
          refine lv_if_ne (tgt := 105) hx hb d_T_pump_97 (by decide) (fun c_97 => ?_) (fun c_97 => ?_)
          · rw [if_neg c_97] at hΦ
            exact blk_105 (f_N_becomes (f_T_take σ 0).2 ((mg (f_T_take σ 0).2 ((f_T_take σ 0).1) 1).toNatClampNeg) (mg (f_T_take σ 0).2 ((f_T_take σ 0).1) 2)).2 ((f_T_take σ 0).1) ((mg (f_T_take σ 0).2 ((f_T_take σ 0).1) 1).toNatClampNeg) _ _ _ I (lv_sub hl [2, 1, 0] rfl) hΦ hB1.bec hd1 (vlt hM1.1) (hM1.of bec_k.2.2)
          · rw [if_pos c_97] at hΦ
            refine lv_aload_n hx hb d_T_pump_100 rfl (lv_at hl 1 rfl) ?_
            refine tGetG 0 X I (by decide) hd1 d_T_pump_101 ?_
            exact hret _ _ _ _ _ _ I hΦ d_T_pump_104
      · rw [if_neg c_48] at hΦ
        refine lv_aload_n hx hb d_T_pump_51 rfl (lv_at hl 1 rfl) ?_
        refine tGetG 0 X I (by decide) hd1 d_T_pump_52 ?_
        refine lv_iconst (v := 1) hx hb d_T_pump_55 (by decide) ?_
        refine lv_icmp_ne (tgt := 70) hx hb d_T_pump_56 (by decide) (fun c_56 => ?_) (fun c_56 => ?_)
        · rw [if_neg c_56] at hΦ
          refine lv_aload_n hx hb d_T_pump_70 rfl (lv_at hl 1 rfl) ?_
          refine tGetG 0 X I (by decide) hd1 d_T_pump_71 ?_
          refine lv_bipush (v := 20) hx hb d_T_pump_74 (by decide) ?_
          refine lv_iadd hx hb d_T_pump_76 ?_
          exact hret _ _ _ _ _ _ I hΦ d_T_pump_77
        · rw [if_pos c_56] at hΦ
          refine lv_aload_n hx hb d_T_pump_59 rfl (lv_at hl 2 rfl) ?_
          refine lv_aload_n hx hb d_T_pump_60 rfl (lv_at hl 1 rfl) ?_
          refine tGetG 1 X I (by decide) hd1 d_T_pump_61 ?_
          refine lv_iconst (v := 3) hx hb d_T_pump_64 (by decide) ?_
          refine lv_iconst (v := (-1)) hx hb d_T_pump_65 (by decide) ?_
          refine goQx (wf := wT ca ad) I (rT X I [.int (mg (f_T_take σ 0).2 ((f_T_take σ 0).1) 1), .int 3, .int (-1)] (c_T_send l D ca ad A (f_T_take σ 0).2 (mg (f_T_take σ 0).2 ((f_T_take σ 0).1) 1) 3 (-1) hz1 hM1.1) k_T_44 rfl hl rfl ⟨Nat.le_of_ble_eq_true rfl, Nat.le_of_ble_eq_true rfl⟩ (Nat.le_of_ble_eq_true rfl) ⟨Nat.le_refl 0, Nat.le_refl 0⟩ d_T_pump_66) (fun v hv H locs I => ?_)
          refine lv_pop hx hb d_T_pump_69 hv ?_
          refine lv_aload_n hx hb d_T_pump_70 rfl (lv_at hl 1 rfl) ?_
          refine tGetG 0 X I (by decide) hd1 d_T_pump_71 ?_
          refine lv_bipush (v := 20) hx hb d_T_pump_74 (by decide) ?_
          refine lv_iadd hx hb d_T_pump_76 ?_
          exact hret _ _ _ _ _ _ I hΦ d_T_pump_77
    · rw [if_pos c_29] at hΦ
      refine lv_aload_n hx hb d_T_pump_32 rfl (lv_at hl 1 rfl) ?_
      refine tGetG 0 X I (by decide) hd1 d_T_pump_33 ?_
      refine lv_bipush (v := 10) hx hb d_T_pump_36 (by decide) ?_
      refine lv_iadd hx hb d_T_pump_38 ?_
      exact hret _ _ _ _ _ _ I hΦ d_T_pump_39
  · rw [if_pos c_4] at hΦ
    refine lv_iconst (v := 0) hx hb d_T_pump_7 (by decide) ?_
    exact hret _ _ _ _ _ _ I hΦ d_T_pump_8
def f_T_fuse (σ : St) (a : Int32) (b : Int32) : Int32 × St := (if (f_T_isNode σ a) = 0 then ((-1), σ) else (1, (sn σ a.toNatClampNeg 8 (if b < (-1) then (-1) else b))))
set_option maxHeartbeats 4000000 in
set_option maxRecDepth 100000 in
theorem c_T_fuse (l : Launch) (D : va_G) (ca : Nat → ClassId) (ad : Nat → Nat) (A : Nat → Prop) (σ : St) (a : Int32) (b : Int32) : Met l y_T_fuse (Cond.code y_T_fuse b_T_fuse 3 (some .int) :: BASE) (rmK 1) (va_Pc [.ref (ad 0), .int a, .int b] (Pre D (tysT ca) A (wT ca ad σ))) (va_Qi (fun r u => (r, u) = f_T_fuse σ a b) (Pst D A (wT ca ad)) A) 0 0 A := by
  refine enterIx (by decide) (Nat.le_of_ble_eq_true rfl) ?_
  intro Φ hΦ p e s m args below meth c Q X hret I ls hl
  have hx := X.x
  have hb := X.b
  have hl : lv_has ls 3 [(0, .ref (ad 0)), (1, .int a), (2, .int b)] := hl
  rw [f_T_fuse] at hΦ
  refine lv_iload_n hx hb d_T_fuse_0 rfl (lv_at hl 1 rfl) ?_
  refine goIp (wf := wT ca ad) (w := σ) I (runS X I [.int a] (c_T_isNode l D ca ad A σ a) k_T_78 rfl hl rfl ⟨Nat.le_of_ble_eq_true rfl, Nat.le_of_ble_eq_true rfl⟩ (Nat.le_of_ble_eq_true rfl) ⟨Nat.le_refl 0, Nat.le_refl 0⟩ d_T_fuse_1) (fun H locs I => ?_)
  refine lv_if_ne (tgt := 9) hx hb d_T_fuse_4 (by decide) (fun c_4 => ?_) (fun c_4 => ?_)
  · rw [if_neg c_4] at hΦ
    have ha : vp_in a 2 := isN_in c_4
    refine lv_aload_n hx hb d_T_fuse_9 rfl (lv_at hl 0 rfl) ?_
    refine tGetNodes X I d_T_fuse_10 ?_
    refine lv_iload_n hx hb d_T_fuse_13 rfl (lv_at hl 1 rfl) ?_
    refine tNode X I ha d_T_fuse_14 ?_
    refine lv_iload_n hx hb d_T_fuse_15 rfl (lv_at hl 2 rfl) ?_
    refine lv_iconst (v := (-1)) hx hb d_T_fuse_16 (by decide) ?_
    refine mxT X hl ⟨Nat.le_of_ble_eq_true rfl, Nat.le_of_ble_eq_true rfl⟩ ⟨Nat.le_refl 0, Nat.le_refl 0⟩ d_T_fuse_17 ?_
    refine tPutN 8 X I rfl (vlt ha) rfl rfl d_T_fuse_20 (fun H locs I => ?_)
    refine lv_iconst (v := 1) hx hb d_T_fuse_23 (by decide) ?_
    exact hret _ _ _ _ _ _ I hΦ d_T_fuse_24
  · rw [if_pos c_4] at hΦ
    refine lv_iconst (v := (-1)) hx hb d_T_fuse_7 (by decide) ?_
    exact hret _ _ _ _ _ _ I hΦ d_T_fuse_8
def f_T_crash (σ : St) (a : Int32) : Int32 × St := (if (f_T_isNode σ a) = 0 then ((-1), σ) else (if (nf σ a.toNatClampNeg 5) = 0 then (0, (f_N_goDown σ a.toNatClampNeg)) else (1, (f_N_goDown σ a.toNatClampNeg))))
set_option maxHeartbeats 4000000 in
set_option maxRecDepth 100000 in
theorem c_T_crash (l : Launch) (D : va_G) (ca : Nat → ClassId) (ad : Nat → Nat) (A : Nat → Prop) (σ : St) (a : Int32) : Met l y_T_crash (Cond.code y_T_crash b_T_crash 3 (some .int) :: BASE) (rmK 1) (va_Pc [.ref (ad 0), .int a] (Pre D (tysT ca) A (wT ca ad σ))) (va_Qi (fun r u => (r, u) = f_T_crash σ a) (Pst D A (wT ca ad)) A) 0 0 A := by
  refine enterIx (by decide) (Nat.le_of_ble_eq_true rfl) ?_
  intro Φ hΦ p e s m args below meth c Q X hret I ls hl
  have hx := X.x
  have hb := X.b
  have hl : lv_has ls 3 [(0, .ref (ad 0)), (1, .int a)] := hl
  rw [f_T_crash] at hΦ
  refine lv_iload_n hx hb d_T_crash_0 rfl (lv_at hl 1 rfl) ?_
  refine goIp (wf := wT ca ad) (w := σ) I (runS X I [.int a] (c_T_isNode l D ca ad A σ a) k_T_78 rfl hl rfl ⟨Nat.le_of_ble_eq_true rfl, Nat.le_of_ble_eq_true rfl⟩ (Nat.le_of_ble_eq_true rfl) ⟨Nat.le_refl 0, Nat.le_refl 0⟩ d_T_crash_1) (fun H locs I => ?_)
  refine lv_if_ne (tgt := 9) hx hb d_T_crash_4 (by decide) (fun c_4 => ?_) (fun c_4 => ?_)
  · rw [if_neg c_4] at hΦ
    have ha : vp_in a 2 := isN_in c_4
    refine lv_aload_n hx hb d_T_crash_9 rfl (lv_at hl 0 rfl) ?_
    refine tGetNodes X I d_T_crash_10 ?_
    refine lv_iload_n hx hb d_T_crash_13 rfl (lv_at hl 1 rfl) ?_
    refine tNode X I ha d_T_crash_14 ?_
    refine tGetN 5 X I rfl (vlt ha) d_T_crash_15 ?_
    refine lv_istore_n (lv' := [(2, .int (nf σ a.toNatClampNeg 5)), (0, .ref (ad 0)), (1, .int a)]) hx hb d_T_crash_18 rfl hl (by decide) rfl (fun ls hl => ?_)
    refine lv_aload_n hx hb d_T_crash_19 rfl (lv_at hl 1 rfl) ?_
    refine tGetNodes X I d_T_crash_20 ?_
    refine lv_iload_n hx hb d_T_crash_23 rfl (lv_at hl 2 rfl) ?_
    refine tNode X I ha d_T_crash_24 ?_
    refine goVf (wf := wT ca ad) I (rN (vlt ha) X I [] (c_N_goDown l D ca ad A σ a.toNatClampNeg (vlt ha)) k_T_129 rfl hl rfl ⟨Nat.le_of_ble_eq_true rfl, Nat.le_of_ble_eq_true rfl⟩ (Nat.le_of_ble_eq_true rfl) ⟨Nat.le_refl 0, Nat.le_refl 0⟩ d_T_crash_25) (fun H locs I => ?_)
    refine lv_iload_n hx hb d_T_crash_28 rfl (lv_at hl 0 rfl) ?_
    refine lv_if_eq (tgt := 36) hx hb d_T_crash_29 (by decide) (fun c_29 => ?_) (fun c_29 => ?_)
    · rw [if_pos c_29] at hΦ
      refine lv_iconst (v := 0) hx hb d_T_crash_36 (by decide) ?_
      exact hret _ _ _ _ _ _ I hΦ d_T_crash_37
    · rw [if_neg c_29] at hΦ
      refine lv_iconst (v := 1) hx hb d_T_crash_32 (by decide) ?_
      refine lv_goto (tgt := 37) hx hb d_T_crash_33 (by decide) ?_
      exact hret _ _ _ _ _ _ I hΦ d_T_crash_37
  · rw [if_pos c_4] at hΦ
    refine lv_iconst (v := (-1)) hx hb d_T_crash_7 (by decide) ?_
    exact hret _ _ _ _ _ _ I hΦ d_T_crash_8
def f_T_recover (σ : St) (a : Int32) : Int32 × St := (if (f_T_isNode σ a) = 0 then ((-1), σ) else (if (nf σ a.toNatClampNeg 5) = 0 then ((nf (sn (sn (sn σ a.toNatClampNeg 5 1) a.toNatClampNeg 8 (-1)) a.toNatClampNeg 7 (-1)) a.toNatClampNeg 4), (sn (sn (sn σ a.toNatClampNeg 5 1) a.toNatClampNeg 8 (-1)) a.toNatClampNeg 7 (-1))) else ((-2), σ)))
set_option maxHeartbeats 4000000 in
set_option maxRecDepth 100000 in
theorem c_T_recover (l : Launch) (D : va_G) (ca : Nat → ClassId) (ad : Nat → Nat) (A : Nat → Prop) (σ : St) (a : Int32) : Met l y_T_recover (Cond.code y_T_recover b_T_recover 3 (some .int) :: BASE) (rmK 1) (va_Pc [.ref (ad 0), .int a] (Pre D (tysT ca) A (wT ca ad σ))) (va_Qi (fun r u => (r, u) = f_T_recover σ a) (Pst D A (wT ca ad)) A) 0 0 A := by
  refine enterIx (by decide) (Nat.le_of_ble_eq_true rfl) ?_
  intro Φ hΦ p e s m args below meth c Q X hret I ls hl
  have hx := X.x
  have hb := X.b
  have hl : lv_has ls 3 [(0, .ref (ad 0)), (1, .int a)] := hl
  rw [f_T_recover] at hΦ
  refine lv_iload_n hx hb d_T_recover_0 rfl (lv_at hl 1 rfl) ?_
  refine goIp (wf := wT ca ad) (w := σ) I (runS X I [.int a] (c_T_isNode l D ca ad A σ a) k_T_78 rfl hl rfl ⟨Nat.le_of_ble_eq_true rfl, Nat.le_of_ble_eq_true rfl⟩ (Nat.le_of_ble_eq_true rfl) ⟨Nat.le_refl 0, Nat.le_refl 0⟩ d_T_recover_1) (fun H locs I => ?_)
  refine lv_if_ne (tgt := 9) hx hb d_T_recover_4 (by decide) (fun c_4 => ?_) (fun c_4 => ?_)
  · rw [if_neg c_4] at hΦ
    have ha : vp_in a 2 := isN_in c_4
    refine lv_aload_n hx hb d_T_recover_9 rfl (lv_at hl 0 rfl) ?_
    refine tGetNodes X I d_T_recover_10 ?_
    refine lv_iload_n hx hb d_T_recover_13 rfl (lv_at hl 1 rfl) ?_
    refine tNode X I ha d_T_recover_14 ?_
    refine lv_astore_n (lv' := [(2, .ref (ad (3 + a.toNatClampNeg))), (0, .ref (ad 0)), (1, .int a)]) hx hb d_T_recover_15 rfl hl (by decide) rfl (fun ls hl => ?_)
    refine lv_aload_n hx hb d_T_recover_16 rfl (lv_at hl 0 rfl) ?_
    refine tGetN 5 X I rfl (vlt ha) d_T_recover_17 ?_
    refine lv_if_eq (tgt := 26) hx hb d_T_recover_20 (by decide) (fun c_20 => ?_) (fun c_20 => ?_)
    · rw [if_pos c_20] at hΦ
      refine lv_aload_n hx hb d_T_recover_26 rfl (lv_at hl 0 rfl) ?_
      refine lv_iconst (v := 1) hx hb d_T_recover_27 (by decide) ?_
      refine tPutN 5 X I rfl (vlt ha) rfl rfl d_T_recover_28 (fun H locs I => ?_)
      refine lv_aload_n hx hb d_T_recover_31 rfl (lv_at hl 0 rfl) ?_
      refine lv_iconst (v := (-1)) hx hb d_T_recover_32 (by decide) ?_
      refine tPutN 8 X I rfl (vlt ha) rfl rfl d_T_recover_33 (fun H locs I => ?_)
      refine lv_aload_n hx hb d_T_recover_36 rfl (lv_at hl 0 rfl) ?_
      refine lv_iconst (v := (-1)) hx hb d_T_recover_37 (by decide) ?_
      refine tPutN 7 X I rfl (vlt ha) rfl rfl d_T_recover_38 (fun H locs I => ?_)
      refine lv_aload_n hx hb d_T_recover_41 rfl (lv_at hl 0 rfl) ?_
      refine tGetN 4 X I rfl (vlt ha) d_T_recover_42 ?_
      exact hret _ _ _ _ _ _ I hΦ d_T_recover_45
    · rw [if_neg c_20] at hΦ
      refine lv_bipush (v := (-2)) hx hb d_T_recover_23 (by decide) ?_
      exact hret _ _ _ _ _ _ I hΦ d_T_recover_25
  · rw [if_pos c_4] at hΦ
    refine lv_iconst (v := (-1)) hx hb d_T_recover_7 (by decide) ?_
    exact hret _ _ _ _ _ _ I hΦ d_T_recover_8
def f_T_promote_43 (σ : St) (v3 : Int32) (n : Nat) : Int32 × St := (if (f_N_becomes σ n v3).1 = 0 then ((-4), (f_N_becomes σ n v3).2) else (v3, (sn (sn (f_N_becomes σ n v3).2 n 6 1) n 7 (-1))))
def f_T_promote (σ : St) (a : Int32) : Int32 × St := (if (f_T_isNode σ a) = 0 then ((-1), σ) else (if (nf σ a.toNatClampNeg 5) = 0 then ((-4), σ) else (if (((nf σ a.toNatClampNeg 0) + 1) - ((nf σ a.toNatClampNeg 0) + 1) / 2 * 2) = a then (f_T_promote_43 σ ((nf σ a.toNatClampNeg 0) + 1) a.toNatClampNeg) else (f_T_promote_43 σ (((nf σ a.toNatClampNeg 0) + 1) + 1) a.toNatClampNeg))))
set_option maxHeartbeats 4000000 in
set_option maxRecDepth 100000 in
theorem c_T_promote (l : Launch) (D : va_G) (ca : Nat → ClassId) (ad : Nat → Nat) (A : Nat → Prop) (σ : St) (a : Int32) : Met l y_T_promote (Cond.code y_T_promote b_T_promote 4 (some .int) :: BASE) (rmK 3) (va_Pc [.ref (ad 0), .int a] (Pre D (tysT ca) A (wT ca ad σ))) (va_Qi (fun r u => (r, u) = f_T_promote σ a) (Pst D A (wT ca ad)) A) 0 0 A := by
  refine enterIx (by decide) (Nat.le_of_ble_eq_true rfl) ?_
  intro Φ hΦ p e s m args below meth c Q X hret I ls hl
  have hx := X.x
  have hb := X.b
  have hl : lv_has ls 4 [(0, .ref (ad 0)), (1, .int a)] := hl
  have blk_43 : ∀ (σ : St) (v3 : Int32) (n : Nat) (H : Heap) (locs : List Loc) (ls : Array Slot), In D A s.heap (wT ca ad σ) H locs → lv_has ls 4 [(2, .ref (ad (3 + n))), (3, .int v3)] → Φ (f_T_promote_43 σ v3 n) → (n < 2) → W p l e (rmK 3) s m args below meth c H locs 0 0 Q (F0 m 43 ls []) := by
    intro σ v3 n H locs ls I hl hΦ hn
    rw [f_T_promote_43] at hΦ
    refine lv_aload_n hx hb d_T_promote_43 rfl (lv_at hl 0 rfl) ?_
    refine lv_iload_n hx hb d_T_promote_44 rfl (lv_at hl 1 rfl) ?_
    refine goIf (wf := wT ca ad) I (rN hn X I [.int v3] (c_N_becomes l D ca ad A σ n v3 hn) k_T_97 rfl hl rfl ⟨Nat.le_of_ble_eq_true rfl, Nat.le_of_ble_eq_true rfl⟩ (Nat.le_of_ble_eq_true rfl) ⟨Nat.le_refl 0, Nat.le_refl 0⟩ d_T_promote_45) (fun H locs I => ?_)
    refine lv_if_ne (tgt := 54) hx hb d_T_promote_48 (by decide) (fun c_48 => ?_) (fun c_48 => ?_)
    · rw [if_neg c_48] at hΦ
      refine lv_aload_n hx hb d_T_promote_54 rfl (lv_at hl 0 rfl) ?_
      refine lv_iconst (v := 1) hx hb d_T_promote_55 (by decide) ?_
      refine tPutN 6 X I rfl hn rfl rfl d_T_promote_56 (fun H locs I => ?_)
      refine lv_aload_n hx hb d_T_promote_59 rfl (lv_at hl 0 rfl) ?_
      refine lv_iconst (v := (-1)) hx hb d_T_promote_60 (by decide) ?_
      refine tPutN 7 X I rfl hn rfl rfl d_T_promote_61 (fun H locs I => ?_)
      refine lv_iload_n hx hb d_T_promote_64 rfl (lv_at hl 1 rfl) ?_
      exact hret _ _ _ _ _ _ I hΦ d_T_promote_65
    · rw [if_pos c_48] at hΦ
      refine lv_bipush (v := (-4)) hx hb d_T_promote_51 (by decide) ?_
      exact hret _ _ _ _ _ _ I hΦ d_T_promote_53
  rw [f_T_promote] at hΦ
  refine lv_iload_n hx hb d_T_promote_0 rfl (lv_at hl 1 rfl) ?_
  refine goIp (wf := wT ca ad) (w := σ) I (runS X I [.int a] (c_T_isNode l D ca ad A σ a) k_T_78 rfl hl rfl ⟨Nat.le_of_ble_eq_true rfl, Nat.le_of_ble_eq_true rfl⟩ (Nat.le_of_ble_eq_true rfl) ⟨Nat.le_refl 0, Nat.le_refl 0⟩ d_T_promote_1) (fun H locs I => ?_)
  refine lv_if_ne (tgt := 9) hx hb d_T_promote_4 (by decide) (fun c_4 => ?_) (fun c_4 => ?_)
  · rw [if_neg c_4] at hΦ
    have ha : vp_in a 2 := isN_in c_4
    refine lv_aload_n hx hb d_T_promote_9 rfl (lv_at hl 0 rfl) ?_
    refine tGetNodes X I d_T_promote_10 ?_
    refine lv_iload_n hx hb d_T_promote_13 rfl (lv_at hl 1 rfl) ?_
    refine tNode X I ha d_T_promote_14 ?_
    refine lv_astore_n (lv' := [(2, .ref (ad (3 + a.toNatClampNeg))), (0, .ref (ad 0)), (1, .int a)]) hx hb d_T_promote_15 rfl hl (by decide) rfl (fun ls hl => ?_)
    refine lv_aload_n hx hb d_T_promote_16 rfl (lv_at hl 0 rfl) ?_
    refine tGetN 5 X I rfl (vlt ha) d_T_promote_17 ?_
    refine lv_if_ne (tgt := 26) hx hb d_T_promote_20 (by decide) (fun c_20 => ?_) (fun c_20 => ?_)
    · rw [if_neg c_20] at hΦ
      refine lv_aload_n hx hb d_T_promote_26 rfl (lv_at hl 0 rfl) ?_
      refine tGetN 0 X I rfl (vlt ha) d_T_promote_27 ?_
      refine lv_iconst (v := 1) hx hb d_T_promote_30 (by decide) ?_
      refine lv_iadd hx hb d_T_promote_31 ?_
      refine lv_istore_n (lv' := [(3, .int ((nf σ a.toNatClampNeg 0) + 1)), (2, .ref (ad (3 + a.toNatClampNeg))), (0, .ref (ad 0)), (1, .int a)]) hx hb d_T_promote_32 rfl hl (by decide) rfl (fun ls hl => ?_)
      refine lv_iload_n hx hb d_T_promote_33 rfl (lv_at hl 0 rfl) ?_
      refine lv_iconst (v := 2) hx hb d_T_promote_34 (by decide) ?_
      refine lv_irem hx hb d_T_promote_35 (by decide) ?_
      refine lv_iload_n hx hb d_T_promote_36 rfl (lv_at hl 3 rfl) ?_
      refine lv_icmp_eq (tgt := 43) hx hb d_T_promote_37 (by decide) (fun c_37 => ?_) (fun c_37 => ?_)
      · rw [if_pos c_37] at hΦ
        exact blk_43 σ ((nf σ a.toNatClampNeg 0) + 1) a.toNatClampNeg _ _ _ I (lv_sub hl [1, 0] rfl) hΦ (vlt ha)
      · rw [if_neg c_37] at hΦ
        refine lv_iinc (v := (((nf σ a.toNatClampNeg 0) + 1) + 1)) (lv' := [(3, .int (((nf σ a.toNatClampNeg 0) + 1) + 1)), (2, .ref (ad (3 + a.toNatClampNeg))), (0, .ref (ad 0)), (1, .int a)]) hx hb d_T_promote_40 hl (k := 0) rfl rfl (by decide) rfl (fun ls hl => ?_)
        exact blk_43 σ (((nf σ a.toNatClampNeg 0) + 1) + 1) a.toNatClampNeg _ _ _ I (lv_sub hl [1, 0] rfl) hΦ (vlt ha)
    · rw [if_pos c_20] at hΦ
      refine lv_bipush (v := (-4)) hx hb d_T_promote_23 (by decide) ?_
      exact hret _ _ _ _ _ _ I hΦ d_T_promote_25
  · rw [if_pos c_4] at hΦ
    refine lv_iconst (v := (-1)) hx hb d_T_promote_7 (by decide) ?_
    exact hret _ _ _ _ _ _ I hΦ d_T_promote_8
def f_T_rejoin (σ : St) (a : Int32) : Int32 × St := (if (f_T_isNode σ a) = 0 then ((-1), σ) else (if (nf σ a.toNatClampNeg 5) = 0 then ((-4), σ) else (if (nf σ a.toNatClampNeg 6) = 0 then (if (f_T_send σ a 3 (nf σ a.toNatClampNeg 4)).1 = none then ((-3), (f_T_send σ a 3 (nf σ a.toNatClampNeg 4)).2) else (1, (f_T_send σ a 3 (nf σ a.toNatClampNeg 4)).2)) else ((-2), σ))))
set_option maxHeartbeats 4000000 in
set_option maxRecDepth 100000 in
theorem c_T_rejoin (l : Launch) (D : va_G) (ca : Nat → ClassId) (ad : Nat → Nat) (A : Nat → Prop) (σ : St) (a : Int32) (hZ : Bz σ) : Met l y_T_rejoin (Cond.code y_T_rejoin b_T_rejoin 3 (some .int) :: BASE) (rmK 1) (va_Pc [.ref (ad 0), .int a] (Pre D (tysT ca) A (wT ca ad σ))) (va_Qi (fun r u => (r, u) = f_T_rejoin σ a) (Pst D A (wT ca ad)) A) 0 0 A := by
  refine enterIx (by decide) (Nat.le_of_ble_eq_true rfl) ?_
  intro Φ hΦ p e s m args below meth c Q X hret I ls hl
  have hx := X.x
  have hb := X.b
  have hl : lv_has ls 3 [(0, .ref (ad 0)), (1, .int a)] := hl
  rw [f_T_rejoin] at hΦ
  refine lv_iload_n hx hb d_T_rejoin_0 rfl (lv_at hl 1 rfl) ?_
  refine goIp (wf := wT ca ad) (w := σ) I (runS X I [.int a] (c_T_isNode l D ca ad A σ a) k_T_78 rfl hl rfl ⟨Nat.le_of_ble_eq_true rfl, Nat.le_of_ble_eq_true rfl⟩ (Nat.le_of_ble_eq_true rfl) ⟨Nat.le_refl 0, Nat.le_refl 0⟩ d_T_rejoin_1) (fun H locs I => ?_)
  refine lv_if_ne (tgt := 9) hx hb d_T_rejoin_4 (by decide) (fun c_4 => ?_) (fun c_4 => ?_)
  · rw [if_neg c_4] at hΦ
    have ha : vp_in a 2 := isN_in c_4
    refine lv_aload_n hx hb d_T_rejoin_9 rfl (lv_at hl 0 rfl) ?_
    refine tGetNodes X I d_T_rejoin_10 ?_
    refine lv_iload_n hx hb d_T_rejoin_13 rfl (lv_at hl 1 rfl) ?_
    refine tNode X I ha d_T_rejoin_14 ?_
    refine lv_astore_n (lv' := [(2, .ref (ad (3 + a.toNatClampNeg))), (0, .ref (ad 0)), (1, .int a)]) hx hb d_T_rejoin_15 rfl hl (by decide) rfl (fun ls hl => ?_)
    refine lv_aload_n hx hb d_T_rejoin_16 rfl (lv_at hl 0 rfl) ?_
    refine tGetN 5 X I rfl (vlt ha) d_T_rejoin_17 ?_
    refine lv_if_ne (tgt := 26) hx hb d_T_rejoin_20 (by decide) (fun c_20 => ?_) (fun c_20 => ?_)
    · rw [if_neg c_20] at hΦ
      refine lv_aload_n hx hb d_T_rejoin_26 rfl (lv_at hl 0 rfl) ?_
      refine tGetN 6 X I rfl (vlt ha) d_T_rejoin_27 ?_
      refine lv_if_eq (tgt := 36) hx hb d_T_rejoin_30 (by decide) (fun c_30 => ?_) (fun c_30 => ?_)
      · rw [if_pos c_30] at hΦ
        refine lv_aload_n hx hb d_T_rejoin_36 rfl (lv_at hl 1 rfl) ?_
        refine lv_iload_n hx hb d_T_rejoin_37 rfl (lv_at hl 2 rfl) ?_
        refine lv_iconst (v := 3) hx hb d_T_rejoin_38 (by decide) ?_
        refine lv_aload_n hx hb d_T_rejoin_39 rfl (lv_at hl 0 rfl) ?_
        refine tGetN 4 X I rfl (vlt ha) d_T_rejoin_40 ?_
        refine goQc (wf := wT ca ad) I (rT X I [.int a, .int 3, .int (nf σ a.toNatClampNeg 4)] (c_T_send l D ca ad A σ a 3 (nf σ a.toNatClampNeg 4) hZ ha) k_T_44 rfl hl rfl ⟨Nat.le_of_ble_eq_true rfl, Nat.le_of_ble_eq_true rfl⟩ (Nat.le_of_ble_eq_true rfl) ⟨Nat.le_refl 0, Nat.le_refl 0⟩ d_T_rejoin_43) (fun c_43 H locs I => ?_) (fun c_43 H locs I => ?_)
        · rw [if_pos c_43] at hΦ
          refine lv_ifnonnullN hx hb d_T_rejoin_46 ?_
          refine lv_bipush (v := (-3)) hx hb d_T_rejoin_49 (by decide) ?_
          refine lv_goto (tgt := 55) hx hb d_T_rejoin_51 (by decide) ?_
          exact hret _ _ _ _ _ _ I hΦ d_T_rejoin_55
        · rw [if_neg c_43] at hΦ
          refine lv_ifnonnull (tgt := 54) hx hb d_T_rejoin_46 (by decide) ?_
          refine lv_iconst (v := 1) hx hb d_T_rejoin_54 (by decide) ?_
          exact hret _ _ _ _ _ _ I hΦ d_T_rejoin_55
      · rw [if_neg c_30] at hΦ
        refine lv_bipush (v := (-2)) hx hb d_T_rejoin_33 (by decide) ?_
        exact hret _ _ _ _ _ _ I hΦ d_T_rejoin_35
    · rw [if_pos c_20] at hΦ
      refine lv_bipush (v := (-4)) hx hb d_T_rejoin_23 (by decide) ?_
      exact hret _ _ _ _ _ _ I hΦ d_T_rejoin_25
  · rw [if_pos c_4] at hΦ
    refine lv_iconst (v := (-1)) hx hb d_T_rejoin_7 (by decide) ?_
    exact hret _ _ _ _ _ _ I hΦ d_T_rejoin_8
def f_T_told (σ : St) (a : Int32) (b : Int32) : Int32 := (if (f_T_isNode σ a) = 0 then (-1) else (if b = 0 then (nf σ a.toNatClampNeg 0) else (if b = 1 then (nf σ a.toNatClampNeg 4) else (if b = 2 then (if (nf σ a.toNatClampNeg 5) = 0 then 0 else 1) else (if b = 3 then (if (nf σ a.toNatClampNeg 6) = 0 then 0 else 1) else (if b = 4 then (if (nf σ a.toNatClampNeg 6) = 0 then (-1) else (nf σ a.toNatClampNeg 7)) else (if b = 5 then (nf σ a.toNatClampNeg 8) else (if b = 6 then (nf σ a.toNatClampNeg 9) else (-1)))))))))
set_option maxHeartbeats 4000000 in
set_option maxRecDepth 100000 in
theorem c_T_told (l : Launch) (D : va_G) (ca : Nat → ClassId) (ad : Nat → Nat) (A : Nat → Prop) (σ : St) (a : Int32) (b : Int32) : Met l y_T_told (Cond.code y_T_told b_T_told 4 (some .int) :: BASE) (rmK 1) (va_Pc [.ref (ad 0), .int a, .int b] (Pre D (tysT ca) A (wT ca ad σ))) (va_Qi (fun r u => (r, u) = (f_T_told σ a b, σ)) (Pst D A (wT ca ad)) A) 0 0 A := by
  refine enterIx (by decide) (Nat.le_of_ble_eq_true rfl) ?_
  intro Φ hΦ p e s m args below meth c Q X hret I ls hl
  have hx := X.x
  have hb := X.b
  have hl : lv_has ls 4 [(0, .ref (ad 0)), (1, .int a), (2, .int b)] := hl
  rw [f_T_told] at hΦ
  refine lv_iload_n hx hb d_T_told_0 rfl (lv_at hl 1 rfl) ?_
  refine goIp (wf := wT ca ad) (w := σ) I (runS X I [.int a] (c_T_isNode l D ca ad A σ a) k_T_78 rfl hl rfl ⟨Nat.le_of_ble_eq_true rfl, Nat.le_of_ble_eq_true rfl⟩ (Nat.le_of_ble_eq_true rfl) ⟨Nat.le_refl 0, Nat.le_refl 0⟩ d_T_told_1) (fun H locs I => ?_)
  refine lv_if_ne (tgt := 9) hx hb d_T_told_4 (by decide) (fun c_4 => ?_) (fun c_4 => ?_)
  · rw [if_neg c_4] at hΦ
    have ha : vp_in a 2 := isN_in c_4
    refine lv_aload_n hx hb d_T_told_9 rfl (lv_at hl 0 rfl) ?_
    refine tGetNodes X I d_T_told_10 ?_
    refine lv_iload_n hx hb d_T_told_13 rfl (lv_at hl 1 rfl) ?_
    refine tNode X I ha d_T_told_14 ?_
    refine lv_astore_n (lv' := [(3, .ref (ad (3 + a.toNatClampNeg))), (0, .ref (ad 0)), (1, .int a), (2, .int b)]) hx hb d_T_told_15 rfl hl (by decide) rfl (fun ls hl => ?_)
    refine lv_iload_n hx hb d_T_told_16 rfl (lv_at hl 3 rfl) ?_
    by_cases w_0 : b = 0
    · rw [if_pos w_0] at hΦ
      refine lv_tableIn (tgt := 60) hx hb d_T_told_17 (by rw [w_0]; decide) (by rw [w_0]; decide) (by rw [w_0]; rfl) (by decide) ?_
      refine lv_aload_n hx hb d_T_told_60 rfl (lv_at hl 0 rfl) ?_
      refine tGetN 0 X I rfl (vlt ha) d_T_told_61 ?_
      exact hret _ _ _ _ _ _ I hΦ d_T_told_64
    · rw [if_neg w_0] at hΦ
      by_cases w_1 : b = 1
      · rw [if_pos w_1] at hΦ
        refine lv_tableIn (tgt := 65) hx hb d_T_told_17 (by rw [w_1]; decide) (by rw [w_1]; decide) (by rw [w_1]; rfl) (by decide) ?_
        refine lv_aload_n hx hb d_T_told_65 rfl (lv_at hl 0 rfl) ?_
        refine tGetN 4 X I rfl (vlt ha) d_T_told_66 ?_
        exact hret _ _ _ _ _ _ I hΦ d_T_told_69
      · rw [if_neg w_1] at hΦ
        by_cases w_2 : b = 2
        · rw [if_pos w_2] at hΦ
          refine lv_tableIn (tgt := 70) hx hb d_T_told_17 (by rw [w_2]; decide) (by rw [w_2]; decide) (by rw [w_2]; rfl) (by decide) ?_
          refine lv_aload_n hx hb d_T_told_70 rfl (lv_at hl 0 rfl) ?_
          refine tGetN 5 X I rfl (vlt ha) d_T_told_71 ?_
          refine lv_if_eq (tgt := 81) hx hb d_T_told_74 (by decide) (fun c_74 => ?_) (fun c_74 => ?_)
          · rw [if_pos c_74] at hΦ
            refine lv_iconst (v := 0) hx hb d_T_told_81 (by decide) ?_
            exact hret _ _ _ _ _ _ I hΦ d_T_told_82
          · rw [if_neg c_74] at hΦ
            refine lv_iconst (v := 1) hx hb d_T_told_77 (by decide) ?_
            refine lv_goto (tgt := 82) hx hb d_T_told_78 (by decide) ?_
            exact hret _ _ _ _ _ _ I hΦ d_T_told_82
        · rw [if_neg w_2] at hΦ
          by_cases w_3 : b = 3
          · rw [if_pos w_3] at hΦ
            refine lv_tableIn (tgt := 83) hx hb d_T_told_17 (by rw [w_3]; decide) (by rw [w_3]; decide) (by rw [w_3]; rfl) (by decide) ?_
            refine lv_aload_n hx hb d_T_told_83 rfl (lv_at hl 0 rfl) ?_
            refine tGetN 6 X I rfl (vlt ha) d_T_told_84 ?_
            refine lv_if_eq (tgt := 94) hx hb d_T_told_87 (by decide) (fun c_87 => ?_) (fun c_87 => ?_)
            · rw [if_pos c_87] at hΦ
              refine lv_iconst (v := 0) hx hb d_T_told_94 (by decide) ?_
              exact hret _ _ _ _ _ _ I hΦ d_T_told_95
            · rw [if_neg c_87] at hΦ
              refine lv_iconst (v := 1) hx hb d_T_told_90 (by decide) ?_
              refine lv_goto (tgt := 95) hx hb d_T_told_91 (by decide) ?_
              exact hret _ _ _ _ _ _ I hΦ d_T_told_95
          · rw [if_neg w_3] at hΦ
            by_cases w_4 : b = 4
            · rw [if_pos w_4] at hΦ
              refine lv_tableIn (tgt := 96) hx hb d_T_told_17 (by rw [w_4]; decide) (by rw [w_4]; decide) (by rw [w_4]; rfl) (by decide) ?_
              refine lv_aload_n hx hb d_T_told_96 rfl (lv_at hl 0 rfl) ?_
              refine tGetN 6 X I rfl (vlt ha) d_T_told_97 ?_
              refine lv_if_eq (tgt := 110) hx hb d_T_told_100 (by decide) (fun c_100 => ?_) (fun c_100 => ?_)
              · rw [if_pos c_100] at hΦ
                refine lv_iconst (v := (-1)) hx hb d_T_told_110 (by decide) ?_
                exact hret _ _ _ _ _ _ I hΦ d_T_told_111
              · rw [if_neg c_100] at hΦ
                refine lv_aload_n hx hb d_T_told_103 rfl (lv_at hl 0 rfl) ?_
                refine tGetN 7 X I rfl (vlt ha) d_T_told_104 ?_
                refine lv_goto (tgt := 111) hx hb d_T_told_107 (by decide) ?_
                exact hret _ _ _ _ _ _ I hΦ d_T_told_111
            · rw [if_neg w_4] at hΦ
              by_cases w_5 : b = 5
              · rw [if_pos w_5] at hΦ
                refine lv_tableIn (tgt := 112) hx hb d_T_told_17 (by rw [w_5]; decide) (by rw [w_5]; decide) (by rw [w_5]; rfl) (by decide) ?_
                refine lv_aload_n hx hb d_T_told_112 rfl (lv_at hl 0 rfl) ?_
                refine tGetN 8 X I rfl (vlt ha) d_T_told_113 ?_
                exact hret _ _ _ _ _ _ I hΦ d_T_told_116
              · rw [if_neg w_5] at hΦ
                by_cases w_6 : b = 6
                · rw [if_pos w_6] at hΦ
                  refine lv_tableIn (tgt := 117) hx hb d_T_told_17 (by rw [w_6]; decide) (by rw [w_6]; decide) (by rw [w_6]; rfl) (by decide) ?_
                  refine lv_aload_n hx hb d_T_told_117 rfl (lv_at hl 0 rfl) ?_
                  refine tGetN 9 X I rfl (vlt ha) d_T_told_118 ?_
                  exact hret _ _ _ _ _ _ I hΦ d_T_told_121
                · rw [if_neg w_6] at hΦ
                  refine lv_tableOut (tgt := 122) hx hb d_T_told_17 (sw_out6 w_0 w_1 w_2 w_3 w_4 w_5 w_6) (by decide) ?_
                  refine lv_iconst (v := (-1)) hx hb d_T_told_122 (by decide) ?_
                  exact hret _ _ _ _ _ _ I hΦ d_T_told_123
  · rw [if_pos c_4] at hΦ
    refine lv_iconst (v := (-1)) hx hb d_T_told_7 (by decide) ?_
    exact hret _ _ _ _ _ _ I hΦ d_T_told_8
def f_T_entry (σ : St) (a : Int32) (b : Int32) (x : Int32) : Int32 := (if (f_T_isNode σ a) = 0 then 0 else (if b < 0 then 0 else (if b < (nf σ a.toNatClampNeg 4) then (if x = 0 then (ar σ (3 * a.toNatClampNeg + 0) b.toNatClampNeg) else (if x = 1 then (ar σ (3 * a.toNatClampNeg + 1) b.toNatClampNeg) else (if x = 2 then (ar σ (3 * a.toNatClampNeg + 2) b.toNatClampNeg) else 0))) else 0)))
set_option maxHeartbeats 4000000 in
set_option maxRecDepth 100000 in
theorem c_T_entry (l : Launch) (D : va_G) (ca : Nat → ClassId) (ad : Nat → Nat) (A : Nat → Prop) (σ : St) (a : Int32) (b : Int32) (x : Int32) (hB : Bs σ) : Met l y_T_entry (Cond.code y_T_entry b_T_entry 5 (some .int) :: BASE) (rmK 1) (va_Pc [.ref (ad 0), .int a, .int b, .int x] (Pre D (tysT ca) A (wT ca ad σ))) (va_Qi (fun r u => (r, u) = (f_T_entry σ a b x, σ)) (Pst D A (wT ca ad)) A) 0 0 A := by
  refine enterIx (by decide) (Nat.le_of_ble_eq_true rfl) ?_
  intro Φ hΦ p e s m args below meth c Q X hret I ls hl
  have hx := X.x
  have hb := X.b
  have hl : lv_has ls 5 [(0, .ref (ad 0)), (1, .int a), (2, .int b), (3, .int x)] := hl
  rw [f_T_entry] at hΦ
  refine lv_iload_n hx hb d_T_entry_0 rfl (lv_at hl 1 rfl) ?_
  refine goIp (wf := wT ca ad) (w := σ) I (runS X I [.int a] (c_T_isNode l D ca ad A σ a) k_T_78 rfl hl rfl ⟨Nat.le_of_ble_eq_true rfl, Nat.le_of_ble_eq_true rfl⟩ (Nat.le_of_ble_eq_true rfl) ⟨Nat.le_refl 0, Nat.le_refl 0⟩ d_T_entry_1) (fun H locs I => ?_)
  refine lv_if_eq (tgt := 24) hx hb d_T_entry_4 (by decide) (fun c_4 => ?_) (fun c_4 => ?_)
  · rw [if_pos c_4] at hΦ
    refine lv_iconst (v := 0) hx hb d_T_entry_24 (by decide) ?_
    exact hret _ _ _ _ _ _ I hΦ d_T_entry_25
  · rw [if_neg c_4] at hΦ
    have ha : vp_in a 2 := isN_in c_4
    refine lv_iload_n hx hb d_T_entry_7 rfl (lv_at hl 2 rfl) ?_
    refine lv_if_lt (tgt := 24) hx hb d_T_entry_8 (by decide) (fun c_8 => ?_) (fun c_8 => ?_)
    · rw [if_pos c_8] at hΦ
      refine lv_iconst (v := 0) hx hb d_T_entry_24 (by decide) ?_
      exact hret _ _ _ _ _ _ I hΦ d_T_entry_25
    · rw [if_neg c_8] at hΦ
      refine lv_iload_n hx hb d_T_entry_11 rfl (lv_at hl 2 rfl) ?_
      refine lv_aload_n hx hb d_T_entry_12 rfl (lv_at hl 0 rfl) ?_
      refine tGetNodes X I d_T_entry_13 ?_
      refine lv_iload_n hx hb d_T_entry_16 rfl (lv_at hl 1 rfl) ?_
      refine tNode X I ha d_T_entry_17 ?_
      refine tGetN 4 X I rfl (vlt ha) d_T_entry_18 ?_
      refine lv_icmp_lt (tgt := 26) hx hb d_T_entry_21 (by decide) (fun c_21 => ?_) (fun c_21 => ?_)
      · rw [if_pos c_21] at hΦ
        have hq : vp_in b 64 := by
          have h1 := c_8
          have h2 := c_21
          have h3 := hB.2 _ (vlt ha)
          rw [n_lt, n_0] at h1
          rw [n_lt] at h2
          exact vi ⟨by omega, by omega⟩
        refine lv_aload_n hx hb d_T_entry_26 rfl (lv_at hl 0 rfl) ?_
        refine tGetNodes X I d_T_entry_27 ?_
        refine lv_iload_n hx hb d_T_entry_30 rfl (lv_at hl 1 rfl) ?_
        refine tNode X I ha d_T_entry_31 ?_
        refine lv_astore (lv' := [(4, .ref (ad (3 + a.toNatClampNeg))), (0, .ref (ad 0)), (1, .int a), (2, .int b), (3, .int x)]) hx hb d_T_entry_32 hl (by decide) rfl (fun ls hl => ?_)
        refine lv_iload_n hx hb d_T_entry_34 rfl (lv_at hl 4 rfl) ?_
        refine lv_if_ne (tgt := 48) hx hb d_T_entry_35 (by decide) (fun c_35 => ?_) (fun c_35 => ?_)
        · rw [if_neg c_35] at hΦ
          refine lv_iload_n hx hb d_T_entry_48 rfl (lv_at hl 4 rfl) ?_
          refine lv_iconst (v := 1) hx hb d_T_entry_49 (by decide) ?_
          refine lv_icmp_ne (tgt := 63) hx hb d_T_entry_50 (by decide) (fun c_50 => ?_) (fun c_50 => ?_)
          · rw [if_neg c_50] at hΦ
            refine lv_iload_n hx hb d_T_entry_63 rfl (lv_at hl 4 rfl) ?_
            refine lv_iconst (v := 2) hx hb d_T_entry_64 (by decide) ?_
            refine lv_icmp_ne (tgt := 78) hx hb d_T_entry_65 (by decide) (fun c_65 => ?_) (fun c_65 => ?_)
            · rw [if_neg c_65] at hΦ
              refine lv_iconst (v := 0) hx hb d_T_entry_78 (by decide) ?_
              exact hret _ _ _ _ _ _ I hΦ d_T_entry_79
            · rw [if_pos c_65] at hΦ
              refine lv_aload hx hb d_T_entry_68 (lv_at hl 0 rfl) ?_
              refine tGetNA 2 X I (by decide) (vlt ha) d_T_entry_70 ?_
              refine lv_iload_n hx hb d_T_entry_73 rfl (lv_at hl 3 rfl) ?_
              refine tAld X I (by have := (vlt ha); omega) hq d_T_entry_74 ?_
              refine lv_goto (tgt := 79) hx hb d_T_entry_75 (by decide) ?_
              exact hret _ _ _ _ _ _ I hΦ d_T_entry_79
          · rw [if_pos c_50] at hΦ
            refine lv_aload hx hb d_T_entry_53 (lv_at hl 0 rfl) ?_
            refine tGetNA 1 X I (by decide) (vlt ha) d_T_entry_55 ?_
            refine lv_iload_n hx hb d_T_entry_58 rfl (lv_at hl 3 rfl) ?_
            refine tAld X I (by have := (vlt ha); omega) hq d_T_entry_59 ?_
            refine lv_goto (tgt := 79) hx hb d_T_entry_60 (by decide) ?_
            exact hret _ _ _ _ _ _ I hΦ d_T_entry_79
        · rw [if_pos c_35] at hΦ
          refine lv_aload hx hb d_T_entry_38 (lv_at hl 0 rfl) ?_
          refine tGetNA 0 X I (by decide) (vlt ha) d_T_entry_40 ?_
          refine lv_iload_n hx hb d_T_entry_43 rfl (lv_at hl 3 rfl) ?_
          refine tAld X I (by have := (vlt ha); omega) hq d_T_entry_44 ?_
          refine lv_goto (tgt := 79) hx hb d_T_entry_45 (by decide) ?_
          exact hret _ _ _ _ _ _ I hΦ d_T_entry_79
      · rw [if_neg c_21] at hΦ
        refine lv_iconst (v := 0) hx hb d_T_entry_24 (by decide) ?_
        exact hret _ _ _ _ _ _ I hΦ d_T_entry_25
def f_T_message (σ : St) (a : Int32) (b : Int32) : Int32 := (if a < 0 then (-1) else (if (zs σ) ≤ a then (-1) else (if b < 0 then (-1) else (if b ≤ 3 then (if b = 0 then (mg σ (lk σ a.toNatClampNeg) 0) else (if b = 1 then (mg σ (lk σ a.toNatClampNeg) 1) else (if b = 2 then (mg σ (lk σ a.toNatClampNeg) 2) else (mg σ (lk σ a.toNatClampNeg) 3)))) else (-1)))))
set_option maxHeartbeats 4000000 in
set_option maxRecDepth 100000 in
theorem c_T_message (l : Launch) (D : va_G) (ca : Nat → ClassId) (ad : Nat → Nat) (A : Nat → Prop) (σ : St) (a : Int32) (b : Int32) (hZ : Bz σ) : Met l y_T_message (Cond.code y_T_message b_T_message 4 (some .int) :: BASE) (rmK 0) (va_Pc [.ref (ad 0), .int a, .int b] (Pre D (tysT ca) A (wT ca ad σ))) (va_Qi (fun r u => (r, u) = (f_T_message σ a b, σ)) (Pst D A (wT ca ad)) A) 0 0 A := by
  refine enterIx (by decide) (Nat.le_of_ble_eq_true rfl) ?_
  intro Φ hΦ p e s m args below meth c Q X hret I ls hl
  have hx := X.x
  have hb := X.b
  have hl : lv_has ls 4 [(0, .ref (ad 0)), (1, .int a), (2, .int b)] := hl
  rw [f_T_message] at hΦ
  refine lv_iload_n hx hb d_T_message_0 rfl (lv_at hl 1 rfl) ?_
  refine lv_if_lt (tgt := 21) hx hb d_T_message_1 (by decide) (fun c_1 => ?_) (fun c_1 => ?_)
  · rw [if_pos c_1] at hΦ
    refine lv_iconst (v := (-1)) hx hb d_T_message_21 (by decide) ?_
    exact hret _ _ _ _ _ _ I hΦ d_T_message_22
  · rw [if_neg c_1] at hΦ
    refine lv_iload_n hx hb d_T_message_4 rfl (lv_at hl 1 rfl) ?_
    refine lv_aload_n hx hb d_T_message_5 rfl (lv_at hl 0 rfl) ?_
    refine tGetSize X I d_T_message_6 ?_
    refine lv_icmp_ge (tgt := 21) hx hb d_T_message_9 (by decide) (fun c_9 => ?_) (fun c_9 => ?_)
    · rw [if_pos c_9] at hΦ
      refine lv_iconst (v := (-1)) hx hb d_T_message_21 (by decide) ?_
      exact hret _ _ _ _ _ _ I hΦ d_T_message_22
    · rw [if_neg c_9] at hΦ
      refine lv_iload_n hx hb d_T_message_12 rfl (lv_at hl 2 rfl) ?_
      refine lv_if_lt (tgt := 21) hx hb d_T_message_13 (by decide) (fun c_13 => ?_) (fun c_13 => ?_)
      · rw [if_pos c_13] at hΦ
        refine lv_iconst (v := (-1)) hx hb d_T_message_21 (by decide) ?_
        exact hret _ _ _ _ _ _ I hΦ d_T_message_22
      · rw [if_neg c_13] at hΦ
        refine lv_iload_n hx hb d_T_message_16 rfl (lv_at hl 2 rfl) ?_
        refine lv_iconst (v := 3) hx hb d_T_message_17 (by decide) ?_
        refine lv_icmp_le (tgt := 23) hx hb d_T_message_18 (by decide) (fun c_18 => ?_) (fun c_18 => ?_)
        · rw [if_pos c_18] at hΦ
          have hq : vp_in a 17 := by
            have h1 := c_1
            have h2 := c_9
            have h3 := hZ.1
            rw [n_lt, n_0] at h1
            rw [n_le] at h2
            exact vi ⟨by omega, by omega⟩
          refine lv_aload_n hx hb d_T_message_23 rfl (lv_at hl 0 rfl) ?_
          refine tGetLink X I d_T_message_24 ?_
          refine lv_iload_n hx hb d_T_message_27 rfl (lv_at hl 1 rfl) ?_
          refine tLink X I hq d_T_message_28 ?_
          refine lv_astore_n (lv' := [(3, .ref (ad (11 + (lk σ a.toNatClampNeg)))), (0, .ref (ad 0)), (1, .int a), (2, .int b)]) hx hb d_T_message_29 rfl hl (by decide) rfl (fun ls hl => ?_)
          refine lv_iload_n hx hb d_T_message_30 rfl (lv_at hl 3 rfl) ?_
          refine lv_if_ne (tgt := 41) hx hb d_T_message_31 (by decide) (fun c_31 => ?_) (fun c_31 => ?_)
          · rw [if_neg c_31] at hΦ
            refine lv_iload_n hx hb d_T_message_41 rfl (lv_at hl 3 rfl) ?_
            refine lv_iconst (v := 1) hx hb d_T_message_42 (by decide) ?_
            refine lv_icmp_ne (tgt := 53) hx hb d_T_message_43 (by decide) (fun c_43 => ?_) (fun c_43 => ?_)
            · rw [if_neg c_43] at hΦ
              refine lv_iload_n hx hb d_T_message_53 rfl (lv_at hl 3 rfl) ?_
              refine lv_iconst (v := 2) hx hb d_T_message_54 (by decide) ?_
              refine lv_icmp_ne (tgt := 65) hx hb d_T_message_55 (by decide) (fun c_55 => ?_) (fun c_55 => ?_)
              · rw [if_neg c_55] at hΦ
                refine lv_aload_n hx hb d_T_message_65 rfl (lv_at hl 0 rfl) ?_
                refine tGetG 3 X I (by decide) (hZ.2 _ (vlt hq)) d_T_message_66 ?_
                exact hret _ _ _ _ _ _ I hΦ d_T_message_69
              · rw [if_pos c_55] at hΦ
                refine lv_aload_n hx hb d_T_message_58 rfl (lv_at hl 0 rfl) ?_
                refine tGetG 2 X I (by decide) (hZ.2 _ (vlt hq)) d_T_message_59 ?_
                refine lv_goto (tgt := 69) hx hb d_T_message_62 (by decide) ?_
                exact hret _ _ _ _ _ _ I hΦ d_T_message_69
            · rw [if_pos c_43] at hΦ
              refine lv_aload_n hx hb d_T_message_46 rfl (lv_at hl 0 rfl) ?_
              refine tGetG 1 X I (by decide) (hZ.2 _ (vlt hq)) d_T_message_47 ?_
              refine lv_goto (tgt := 69) hx hb d_T_message_50 (by decide) ?_
              exact hret _ _ _ _ _ _ I hΦ d_T_message_69
          · rw [if_pos c_31] at hΦ
            refine lv_aload_n hx hb d_T_message_34 rfl (lv_at hl 0 rfl) ?_
            refine tGetG 0 X I (by decide) (hZ.2 _ (vlt hq)) d_T_message_35 ?_
            refine lv_goto (tgt := 69) hx hb d_T_message_38 (by decide) ?_
            exact hret _ _ _ _ _ _ I hΦ d_T_message_69
        · rw [if_neg c_18] at hΦ
          refine lv_iconst (v := (-1)) hx hb d_T_message_21 (by decide) ?_
          exact hret _ _ _ _ _ _ I hΦ d_T_message_22
def f_T_same_16 : Nat → St → Int32 → Int32
  | 0, σ, _ => 0
  | fuel + 1, σ, v3 => (if (nf σ ((0 : Int32).toNatClampNeg) 4) ≤ v3 then v3 else (if (nf σ ((1 : Int32).toNatClampNeg) 4) ≤ v3 then v3 else (if (ar σ (3 * ((0 : Int32).toNatClampNeg) + 0) v3.toNatClampNeg) = (ar σ (3 * ((1 : Int32).toNatClampNeg) + 0) v3.toNatClampNeg) then (if (ar σ (3 * ((0 : Int32).toNatClampNeg) + 1) v3.toNatClampNeg) = (ar σ (3 * ((1 : Int32).toNatClampNeg) + 1) v3.toNatClampNeg) then (if (ar σ (3 * ((0 : Int32).toNatClampNeg) + 2) v3.toNatClampNeg) = (ar σ (3 * ((1 : Int32).toNatClampNeg) + 2) v3.toNatClampNeg) then (f_T_same_16 fuel σ (v3 + 1)) else v3) else v3) else v3)))
def f_T_same (σ : St) : Int32 := (f_T_same_16 66 σ 0)
set_option maxHeartbeats 4000000 in
set_option maxRecDepth 100000 in
theorem c_T_same (l : Launch) (D : va_G) (ca : Nat → ClassId) (ad : Nat → Nat) (A : Nat → Prop) (σ : St) (hB : Bs σ) : Met l y_T_same (Cond.code y_T_same b_T_same 4 (some .int) :: BASE) (rmK 0) (va_Pc [.ref (ad 0)] (Pre D (tysT ca) A (wT ca ad σ))) (va_Qi (fun r u => (r, u) = (f_T_same σ, σ)) (Pst D A (wT ca ad)) A) 0 0 A := by
  refine enterIx (by decide) (Nat.le_of_ble_eq_true rfl) ?_
  intro Φ hΦ p e s m args below meth c Q X hret I ls hl
  have hx := X.x
  have hb := X.b
  have hl : lv_has ls 4 [(0, .ref (ad 0))] := hl
  have blk_16 : ∀ (fuel : Nat) (σ : St) (v3 : Int32) (H : Heap) (locs : List Loc) (ls : Array Slot), In D A s.heap (wT ca ad σ) H locs → lv_has ls 4 [(1, .ref (ad (3 + ((0 : Int32).toNatClampNeg)))), (2, .ref (ad (3 + ((1 : Int32).toNatClampNeg)))), (3, .int v3)] → Φ (f_T_same_16 fuel σ v3, σ) → (Bs σ) → (0 ≤ v3.toInt ∧ v3.toInt ≤ 64) → (64 - v3.toInt < fuel) → W p l e (rmK 0) s m args below meth c H locs 0 0 Q (F0 m 16 ls []) := by
    intro fuel
    induction fuel with
    | zero => intro σ v3 H locs ls I hl hΦ hB h3 hf; exact absurd hf (by omega)
    | succ fuel ih =>
      intro σ v3 H locs ls I hl hΦ hB h3 hf
      rw [f_T_same_16] at hΦ
      refine lv_iload_n hx hb d_T_same_16 rfl (lv_at hl 2 rfl) ?_
      refine lv_aload_n hx hb d_T_same_17 rfl (lv_at hl 0 rfl) ?_
      refine tGetN 4 X I rfl (by decide) d_T_same_18 ?_
      refine lv_icmp_ge (tgt := 83) hx hb d_T_same_21 (by decide) (fun c_21 => ?_) (fun c_21 => ?_)
      · rw [if_pos c_21] at hΦ
        refine lv_iload_n hx hb d_T_same_83 rfl (lv_at hl 2 rfl) ?_
        exact hret _ _ _ _ _ _ I hΦ d_T_same_84
      · rw [if_neg c_21] at hΦ
        have hlt : v3.toInt < 64 := by
          have h1 := c_21
          have h2 := hB.2 0 (by decide)
          rw [n_le] at h1
          have h3 : ¬ (nf σ 0 4).toInt ≤ v3.toInt := h1
          omega
        have hq : vp_in v3 64 := vi ⟨h3.1, hlt⟩
        have e1 : (v3 + 1).toInt = v3.toInt + 1 := by rw [n_add (by rw [n_1]; omega) (by rw [n_1]; omega), n_1]
        refine lv_iload_n hx hb d_T_same_24 rfl (lv_at hl 2 rfl) ?_
        refine lv_aload_n hx hb d_T_same_25 rfl (lv_at hl 1 rfl) ?_
        refine tGetN 4 X I rfl (by decide) d_T_same_26 ?_
        refine lv_icmp_ge (tgt := 83) hx hb d_T_same_29 (by decide) (fun c_29 => ?_) (fun c_29 => ?_)
        · rw [if_pos c_29] at hΦ
          refine lv_iload_n hx hb d_T_same_83 rfl (lv_at hl 2 rfl) ?_
          exact hret _ _ _ _ _ _ I hΦ d_T_same_84
        · rw [if_neg c_29] at hΦ
          refine lv_aload_n hx hb d_T_same_32 rfl (lv_at hl 0 rfl) ?_
          refine tGetNA 0 X I (by decide) (by decide) d_T_same_33 ?_
          refine lv_iload_n hx hb d_T_same_36 rfl (lv_at hl 2 rfl) ?_
          refine tAld X I (by decide) hq d_T_same_37 ?_
          refine lv_aload_n hx hb d_T_same_38 rfl (lv_at hl 1 rfl) ?_
          refine tGetNA 0 X I (by decide) (by decide) d_T_same_39 ?_
          refine lv_iload_n hx hb d_T_same_42 rfl (lv_at hl 2 rfl) ?_
          refine tAld X I (by decide) hq d_T_same_43 ?_
          refine lv_icmp_ne (tgt := 83) hx hb d_T_same_44 (by decide) (fun c_44 => ?_) (fun c_44 => ?_)
          · rw [if_neg c_44] at hΦ
            refine lv_iload_n hx hb d_T_same_83 rfl (lv_at hl 2 rfl) ?_
            exact hret _ _ _ _ _ _ I hΦ d_T_same_84
          · rw [if_pos c_44] at hΦ
            refine lv_aload_n hx hb d_T_same_47 rfl (lv_at hl 0 rfl) ?_
            refine tGetNA 1 X I (by decide) (by decide) d_T_same_48 ?_
            refine lv_iload_n hx hb d_T_same_51 rfl (lv_at hl 2 rfl) ?_
            refine tAld X I (by decide) hq d_T_same_52 ?_
            refine lv_aload_n hx hb d_T_same_53 rfl (lv_at hl 1 rfl) ?_
            refine tGetNA 1 X I (by decide) (by decide) d_T_same_54 ?_
            refine lv_iload_n hx hb d_T_same_57 rfl (lv_at hl 2 rfl) ?_
            refine tAld X I (by decide) hq d_T_same_58 ?_
            refine lv_icmp_ne (tgt := 83) hx hb d_T_same_59 (by decide) (fun c_59 => ?_) (fun c_59 => ?_)
            · rw [if_neg c_59] at hΦ
              refine lv_iload_n hx hb d_T_same_83 rfl (lv_at hl 2 rfl) ?_
              exact hret _ _ _ _ _ _ I hΦ d_T_same_84
            · rw [if_pos c_59] at hΦ
              refine lv_aload_n hx hb d_T_same_62 rfl (lv_at hl 0 rfl) ?_
              refine tGetNA 2 X I (by decide) (by decide) d_T_same_63 ?_
              refine lv_iload_n hx hb d_T_same_66 rfl (lv_at hl 2 rfl) ?_
              refine tAld X I (by decide) hq d_T_same_67 ?_
              refine lv_aload_n hx hb d_T_same_68 rfl (lv_at hl 1 rfl) ?_
              refine tGetNA 2 X I (by decide) (by decide) d_T_same_69 ?_
              refine lv_iload_n hx hb d_T_same_72 rfl (lv_at hl 2 rfl) ?_
              refine tAld X I (by decide) hq d_T_same_73 ?_
              refine lv_icmp_ne (tgt := 83) hx hb d_T_same_74 (by decide) (fun c_74 => ?_) (fun c_74 => ?_)
              · rw [if_neg c_74] at hΦ
                refine lv_iload_n hx hb d_T_same_83 rfl (lv_at hl 2 rfl) ?_
                exact hret _ _ _ _ _ _ I hΦ d_T_same_84
              · rw [if_pos c_74] at hΦ
                refine lv_iinc (v := (v3 + 1)) (lv' := [(3, .int (v3 + 1)), (1, .ref (ad (3 + ((0 : Int32).toNatClampNeg)))), (2, .ref (ad (3 + ((1 : Int32).toNatClampNeg))))]) hx hb d_T_same_77 hl (k := 2) rfl rfl (by decide) rfl (fun ls hl => ?_)
                refine lv_goto (tgt := 16) hx hb d_T_same_80 (by decide) ?_
                exact ih σ (v3 + 1) _ _ _ I (lv_sub hl [1, 2, 0] rfl) hΦ hB ⟨by rw [e1]; omega, by rw [e1]; omega⟩ (by rw [e1]; omega)
  rw [f_T_same] at hΦ
  refine lv_aload_n hx hb d_T_same_0 rfl (lv_at hl 0 rfl) ?_
  refine tGetNodes X I d_T_same_1 ?_
  refine lv_iconst (v := 0) hx hb d_T_same_4 (by decide) ?_
  refine tNode X I (vi (by decide)) d_T_same_5 ?_
  refine lv_astore_n (lv' := [(1, .ref (ad (3 + ((0 : Int32).toNatClampNeg)))), (0, .ref (ad 0))]) hx hb d_T_same_6 rfl hl (by decide) rfl (fun ls hl => ?_)
  refine lv_aload_n hx hb d_T_same_7 rfl (lv_at hl 1 rfl) ?_
  refine tGetNodes X I d_T_same_8 ?_
  refine lv_iconst (v := 1) hx hb d_T_same_11 (by decide) ?_
  refine tNode X I (vi (by decide)) d_T_same_12 ?_
  refine lv_astore_n (lv' := [(2, .ref (ad (3 + ((1 : Int32).toNatClampNeg)))), (1, .ref (ad (3 + ((0 : Int32).toNatClampNeg)))), (0, .ref (ad 0))]) hx hb d_T_same_13 rfl hl (by decide) rfl (fun ls hl => ?_)
  refine lv_iconst (v := 0) hx hb d_T_same_14 (by decide) ?_
  refine lv_istore_n (lv' := [(3, .int 0), (2, .ref (ad (3 + ((1 : Int32).toNatClampNeg)))), (1, .ref (ad (3 + ((0 : Int32).toNatClampNeg)))), (0, .ref (ad 0))]) hx hb d_T_same_15 rfl hl (by decide) rfl (fun ls hl => ?_)
  exact blk_16 66 σ 0 _ _ _ I (lv_sub hl [2, 1, 0] rfl) hΦ hB (by decide) (by decide)
end
section
/-! ===== the model's methods ===== -/
def Dz (τ : Mt) : Prop := 0 ≤ (mz τ).toInt ∧ (mz τ).toInt ≤ 16
def Ds (τ : Mt) : Prop := Dz τ ∧ ∀ n, n < 2 → 0 ≤ (am τ 2 n).toInt ∧ (am τ 2 n).toInt ≤ 64
theorem i64 {a v : Int32} (ha : vp_in a 2) (hv : 0 ≤ v.toInt ∧ v.toInt ≤ 64) : (64 * a + v).toInt = 64 * a.toInt + v.toInt := by
  have h1 := iv ha
  have e1 : (64 * a).toInt = 64 * a.toInt := by rw [n_mul (by rw [n_64]; omega) (by rw [n_64]; omega), n_64]
  rw [n_add (by rw [e1]; omega) (by rw [e1]; omega), e1]
theorem v64 {a v : Int32} (ha : vp_in a 2) (hv : vp_in v 64) : vp_in (64 * a + v) 128 := by
  have h1 := iv ha
  have h2 := iv hv
  exact vi (by rw [i64 ha ⟨h2.1, by omega⟩]; omega)
def f_D_isNode (τ : Mt) (a : Int32) : Int32 := (if a = 0 then 1 else (if a = 1 then 1 else 0))
set_option maxHeartbeats 4000000 in
set_option maxRecDepth 100000 in
theorem c_D_isNode (l : Launch) (D : va_G) (ca : Nat → ClassId) (ad : Nat → Nat) (A : Nat → Prop) (τ : Mt) (a : Int32) : Met l y_D_isNode (Cond.code y_D_isNode b_D_isNode 1 (some .boolean) :: BASE) (rmK 0) (va_Pc [.int a] (Pre D (tysD ca) A (wD ca ad τ))) (va_Qi (fun r u => (r, u) = (f_D_isNode τ a, τ)) (Pst D A (wD ca ad)) A) 0 0 A := by
  refine enterZx (by decide) (Nat.le_of_ble_eq_true rfl) ?_
  intro Φ hΦ p e s m args below meth c Q X hret I ls hl
  have hx := X.x
  have hb := X.b
  have hl : lv_has ls 1 [(0, .int a)] := hl
  rw [f_D_isNode] at hΦ
  refine lv_iload_n hx hb d_D_isNode_0 rfl (lv_at hl 0 rfl) ?_
  refine lv_if_eq (tgt := 9) hx hb d_D_isNode_1 (by decide) (fun c_1 => ?_) (fun c_1 => ?_)
  · rw [if_pos c_1] at hΦ
    refine lv_iconst (v := 1) hx hb d_D_isNode_9 (by decide) ?_
    refine lv_goto (tgt := 14) hx hb d_D_isNode_10 (by decide) ?_
    exact hret _ _ _ _ _ _ I hΦ d_D_isNode_14 rfl
  · rw [if_neg c_1] at hΦ
    refine lv_iload_n hx hb d_D_isNode_4 rfl (lv_at hl 0 rfl) ?_
    refine lv_iconst (v := 1) hx hb d_D_isNode_5 (by decide) ?_
    refine lv_icmp_ne (tgt := 13) hx hb d_D_isNode_6 (by decide) (fun c_6 => ?_) (fun c_6 => ?_)
    · rw [if_neg c_6] at hΦ
      refine lv_iconst (v := 0) hx hb d_D_isNode_13 (by decide) ?_
      exact hret _ _ _ _ _ _ I hΦ d_D_isNode_14 rfl
    · rw [if_pos c_6] at hΦ
      refine lv_iconst (v := 1) hx hb d_D_isNode_9 (by decide) ?_
      refine lv_goto (tgt := 14) hx hb d_D_isNode_10 (by decide) ?_
      exact hret _ _ _ _ _ _ I hΦ d_D_isNode_14 rfl
theorem isD_in {τ : Mt} {a : Int32} (h : ¬ f_D_isNode τ a = 0) : vp_in a 2 := by
  unfold f_D_isNode at h
  by_cases h0 : a = 0
  · subst h0; exact vi (by decide)
  · by_cases h1 : a = 1
    · subst h1; exact vi (by decide)
    · rw [if_neg h0, if_neg h1] at h; exact absurd rfl h
def f_D_writes (τ : Mt) (a : Int32) : Int32 × Mt := (if (am τ 6 a.toNatClampNeg) = 0 then (0, (da (da (da τ 3 a.toNatClampNeg 1) 4 a.toNatClampNeg 0) 6 a.toNatClampNeg (-1))) else (if (am τ 6 a.toNatClampNeg) ≤ 0 then (1, (da (da τ 6 a.toNatClampNeg (am τ 6 a.toNatClampNeg)) 7 a.toNatClampNeg ((am (da τ 6 a.toNatClampNeg (am τ 6 a.toNatClampNeg)) 7 a.toNatClampNeg) + 1))) else (1, (da (da τ 6 a.toNatClampNeg ((am τ 6 a.toNatClampNeg) - 1)) 7 a.toNatClampNeg ((am (da τ 6 a.toNatClampNeg ((am τ 6 a.toNatClampNeg) - 1)) 7 a.toNatClampNeg) + 1)))))
set_option maxHeartbeats 4000000 in
set_option maxRecDepth 100000 in
theorem c_D_writes (l : Launch) (D : va_G) (ca : Nat → ClassId) (ad : Nat → Nat) (A : Nat → Prop) (τ : Mt) (a : Int32) (ha : vp_in a 2) : Met l y_D_writes (Cond.code y_D_writes b_D_writes 2 (some .boolean) :: BASE) (rmK 0) (va_Pc [.ref (ad 0), .int a] (Pre D (tysD ca) A (wD ca ad τ))) (va_Qi (fun r u => (r, u) = f_D_writes τ a) (Pst D A (wD ca ad)) A) 0 0 A := by
  refine enterZx (by decide) (Nat.le_of_ble_eq_true rfl) ?_
  intro Φ hΦ p e s m args below meth c Q X hret I ls hl
  have hx := X.x
  have hb := X.b
  have hl : lv_has ls 2 [(0, .ref (ad 0)), (1, .int a)] := hl
  rw [f_D_writes] at hΦ
  refine lv_aload_n hx hb d_D_writes_0 rfl (lv_at hl 0 rfl) ?_
  refine dGetA 6 X I (by decide) (by decide) d_D_writes_1 ?_
  refine lv_iload_n hx hb d_D_writes_4 rfl (lv_at hl 1 rfl) ?_
  refine dIald 6 X I (by decide) rfl ha d_D_writes_5 ?_
  refine lv_if_ne (tgt := 32) hx hb d_D_writes_6 (by decide) (fun c_6 => ?_) (fun c_6 => ?_)
  · rw [if_neg c_6] at hΦ
    refine lv_aload_n hx hb d_D_writes_32 rfl (lv_at hl 0 rfl) ?_
    refine dGetA 6 X I (by decide) (by decide) d_D_writes_33 ?_
    refine lv_iload_n hx hb d_D_writes_36 rfl (lv_at hl 1 rfl) ?_
    refine lv_aload_n hx hb d_D_writes_37 rfl (lv_at hl 0 rfl) ?_
    refine dGetA 6 X I (by decide) (by decide) d_D_writes_38 ?_
    refine lv_iload_n hx hb d_D_writes_41 rfl (lv_at hl 1 rfl) ?_
    refine dIald 6 X I (by decide) rfl ha d_D_writes_42 ?_
    refine lv_if_le (tgt := 57) hx hb d_D_writes_43 (by decide) (fun c_43 => ?_) (fun c_43 => ?_)
    · rw [if_pos c_43] at hΦ
      refine lv_aload_n hx hb d_D_writes_57 rfl (lv_at hl 0 rfl) ?_
      refine dGetA 6 X I (by decide) (by decide) d_D_writes_58 ?_
      refine lv_iload_n hx hb d_D_writes_61 rfl (lv_at hl 1 rfl) ?_
      refine dIald 6 X I (by decide) rfl ha d_D_writes_62 ?_
      refine dIast 6 X I (by decide) rfl ha d_D_writes_63 (fun H locs I => ?_)
      refine lv_aload_n hx hb d_D_writes_64 rfl (lv_at hl 0 rfl) ?_
      refine dGetA 7 X I (by decide) (by decide) d_D_writes_65 ?_
      refine lv_iload_n hx hb d_D_writes_68 rfl (lv_at hl 1 rfl) ?_
      refine lv_dup2_11 hx hb d_D_writes_69 rfl rfl ?_
      refine dIald 7 X I (by decide) rfl ha d_D_writes_70 ?_
      refine lv_iconst (v := 1) hx hb d_D_writes_71 (by decide) ?_
      refine lv_iadd hx hb d_D_writes_72 ?_
      refine dIast 7 X I (by decide) rfl ha d_D_writes_73 (fun H locs I => ?_)
      refine lv_iconst (v := 1) hx hb d_D_writes_74 (by decide) ?_
      exact hret _ _ _ _ _ _ I hΦ d_D_writes_75 rfl
    · rw [if_neg c_43] at hΦ
      refine lv_aload_n hx hb d_D_writes_46 rfl (lv_at hl 0 rfl) ?_
      refine dGetA 6 X I (by decide) (by decide) d_D_writes_47 ?_
      refine lv_iload_n hx hb d_D_writes_50 rfl (lv_at hl 1 rfl) ?_
      refine dIald 6 X I (by decide) rfl ha d_D_writes_51 ?_
      refine lv_iconst (v := 1) hx hb d_D_writes_52 (by decide) ?_
      refine lv_isub hx hb d_D_writes_53 ?_
      refine lv_goto (tgt := 63) hx hb d_D_writes_54 (by decide) ?_
      refine dIast 6 X I (by decide) rfl ha d_D_writes_63 (fun H locs I => ?_)
      refine lv_aload_n hx hb d_D_writes_64 rfl (lv_at hl 0 rfl) ?_
      refine dGetA 7 X I (by decide) (by decide) d_D_writes_65 ?_
      refine lv_iload_n hx hb d_D_writes_68 rfl (lv_at hl 1 rfl) ?_
      refine lv_dup2_11 hx hb d_D_writes_69 rfl rfl ?_
      refine dIald 7 X I (by decide) rfl ha d_D_writes_70 ?_
      refine lv_iconst (v := 1) hx hb d_D_writes_71 (by decide) ?_
      refine lv_iadd hx hb d_D_writes_72 ?_
      refine dIast 7 X I (by decide) rfl ha d_D_writes_73 (fun H locs I => ?_)
      refine lv_iconst (v := 1) hx hb d_D_writes_74 (by decide) ?_
      exact hret _ _ _ _ _ _ I hΦ d_D_writes_75 rfl
  · rw [if_pos c_6] at hΦ
    refine lv_aload_n hx hb d_D_writes_9 rfl (lv_at hl 0 rfl) ?_
    refine dGetA 3 X I (by decide) (by decide) d_D_writes_10 ?_
    refine lv_iload_n hx hb d_D_writes_13 rfl (lv_at hl 1 rfl) ?_
    refine lv_iconst (v := 1) hx hb d_D_writes_14 (by decide) ?_
    refine dZast 3 X I (by decide) ha rfl d_D_writes_15 (fun H locs I => ?_)
    refine lv_aload_n hx hb d_D_writes_16 rfl (lv_at hl 0 rfl) ?_
    refine dGetA 4 X I (by decide) (by decide) d_D_writes_17 ?_
    refine lv_iload_n hx hb d_D_writes_20 rfl (lv_at hl 1 rfl) ?_
    refine lv_iconst (v := 0) hx hb d_D_writes_21 (by decide) ?_
    refine dZast 4 X I (by decide) ha rfl d_D_writes_22 (fun H locs I => ?_)
    refine lv_aload_n hx hb d_D_writes_23 rfl (lv_at hl 0 rfl) ?_
    refine dGetA 6 X I (by decide) (by decide) d_D_writes_24 ?_
    refine lv_iload_n hx hb d_D_writes_27 rfl (lv_at hl 1 rfl) ?_
    refine lv_iconst (v := (-1)) hx hb d_D_writes_28 (by decide) ?_
    refine dIast 6 X I (by decide) rfl ha d_D_writes_29 (fun H locs I => ?_)
    refine lv_iconst (v := 0) hx hb d_D_writes_30 (by decide) ?_
    exact hret _ _ _ _ _ _ I hΦ d_D_writes_31 rfl
theorem dwr_k {τ : Mt} {a : Int32} : mz (f_D_writes τ a).2 = mz τ ∧ ∀ j, j ≠ 3 → j ≠ 4 → j ≠ 6 → j ≠ 7 → am (f_D_writes τ a).2 j = am τ j := by
  unfold f_D_writes
  split
  · refine ⟨rfl, fun j h3 h4 h6 h7 => ?_⟩
    rw [am_o h6, am_o h4, am_o h3]
  · split
    · refine ⟨rfl, fun j h3 h4 h6 h7 => ?_⟩
      rw [am_o h7, am_o h6]
    · refine ⟨rfl, fun j h3 h4 h6 h7 => ?_⟩
      rw [am_o h7, am_o h6]
def f_D_putBehind (τ : Mt) (a : Int32) (t : Int32) (k : Int32) (v : Int32) : Int32 × Mt := (if (f_D_writes τ a).1 = 0 then (0, (f_D_writes τ a).2) else (1, (da (da (da (da (f_D_writes τ a).2 8 ((64 * a) + (am (f_D_writes τ a).2 2 a.toNatClampNeg)).toNatClampNeg t) 9 ((64 * a) + (am (f_D_writes τ a).2 2 a.toNatClampNeg)).toNatClampNeg k) 10 ((64 * a) + (am (f_D_writes τ a).2 2 a.toNatClampNeg)).toNatClampNeg v) 2 a.toNatClampNeg ((am (da (da (da (f_D_writes τ a).2 8 ((64 * a) + (am (f_D_writes τ a).2 2 a.toNatClampNeg)).toNatClampNeg t) 9 ((64 * a) + (am (f_D_writes τ a).2 2 a.toNatClampNeg)).toNatClampNeg k) 10 ((64 * a) + (am (f_D_writes τ a).2 2 a.toNatClampNeg)).toNatClampNeg v) 2 a.toNatClampNeg) + 1))))
set_option maxHeartbeats 4000000 in
set_option maxRecDepth 100000 in
theorem c_D_putBehind (l : Launch) (D : va_G) (ca : Nat → ClassId) (ad : Nat → Nat) (A : Nat → Prop) (τ : Mt) (a : Int32) (t : Int32) (k : Int32) (v : Int32) (ha : vp_in a 2) (hlen : vp_in (am τ 2 a.toNatClampNeg) 64) : Met l y_D_putBehind (Cond.code y_D_putBehind b_D_putBehind 6 (some .boolean) :: BASE) (rmK 1) (va_Pc [.ref (ad 0), .int a, .int t, .int k, .int v] (Pre D (tysD ca) A (wD ca ad τ))) (va_Qi (fun r u => (r, u) = f_D_putBehind τ a t k v) (Pst D A (wD ca ad)) A) 0 0 A := by
  refine enterZx (by decide) (Nat.le_of_ble_eq_true rfl) ?_
  intro Φ hΦ p e s m args below meth c Q X hret I ls hl
  have hx := X.x
  have hb := X.b
  have hl : lv_has ls 6 [(0, .ref (ad 0)), (1, .int a), (2, .int t), (3, .int k), (4, .int v)] := hl
  rw [f_D_putBehind] at hΦ
  refine lv_aload_n hx hb d_D_putBehind_0 rfl (lv_at hl 0 rfl) ?_
  refine lv_iload_n hx hb d_D_putBehind_1 rfl (lv_at hl 1 rfl) ?_
  refine goIf (wf := wD ca ad) I (rD X I [.int a] (c_D_writes l D ca ad A τ a ha) k_D_47 rfl hl rfl ⟨Nat.le_of_ble_eq_true rfl, Nat.le_of_ble_eq_true rfl⟩ (Nat.le_of_ble_eq_true rfl) ⟨Nat.le_refl 0, Nat.le_refl 0⟩ d_D_putBehind_2) (fun H locs I => ?_)
  refine lv_if_ne (tgt := 10) hx hb d_D_putBehind_5 (by decide) (fun c_5 => ?_) (fun c_5 => ?_)
  · rw [if_neg c_5] at hΦ
    have hq : vp_in (64 * a + am (f_D_writes τ a).2 2 a.toNatClampNeg) 128 := by rw [dwr_k.2 2 (by decide) (by decide) (by decide) (by decide)]; exact v64 ha hlen
    refine lv_bipush (v := 64) hx hb d_D_putBehind_10 (by decide) ?_
    refine lv_iload_n hx hb d_D_putBehind_12 rfl (lv_at hl 1 rfl) ?_
    refine lv_imul hx hb d_D_putBehind_13 ?_
    refine lv_aload_n hx hb d_D_putBehind_14 rfl (lv_at hl 0 rfl) ?_
    refine dGetA 2 X I (by decide) (by decide) d_D_putBehind_15 ?_
    refine lv_iload_n hx hb d_D_putBehind_18 rfl (lv_at hl 1 rfl) ?_
    refine dIald 2 X I (by decide) rfl ha d_D_putBehind_19 ?_
    refine lv_iadd hx hb d_D_putBehind_20 ?_
    refine lv_istore (lv' := [(5, .int ((64 * a) + (am (f_D_writes τ a).2 2 a.toNatClampNeg))), (0, .ref (ad 0)), (1, .int a), (2, .int t), (3, .int k), (4, .int v)]) hx hb d_D_putBehind_21 hl (by decide) rfl (fun ls hl => ?_)
    refine lv_aload_n hx hb d_D_putBehind_23 rfl (lv_at hl 1 rfl) ?_
    refine dGetA 8 X I (by decide) (by decide) d_D_putBehind_24 ?_
    refine lv_iload hx hb d_D_putBehind_27 (lv_at hl 0 rfl) ?_
    refine lv_iload_n hx hb d_D_putBehind_29 rfl (lv_at hl 3 rfl) ?_
    refine dIast 8 X I (by decide) rfl hq d_D_putBehind_30 (fun H locs I => ?_)
    refine lv_aload_n hx hb d_D_putBehind_31 rfl (lv_at hl 1 rfl) ?_
    refine dGetA 9 X I (by decide) (by decide) d_D_putBehind_32 ?_
    refine lv_iload hx hb d_D_putBehind_35 (lv_at hl 0 rfl) ?_
    refine lv_iload_n hx hb d_D_putBehind_37 rfl (lv_at hl 4 rfl) ?_
    refine dIast 9 X I (by decide) rfl hq d_D_putBehind_38 (fun H locs I => ?_)
    refine lv_aload_n hx hb d_D_putBehind_39 rfl (lv_at hl 1 rfl) ?_
    refine dGetA 10 X I (by decide) (by decide) d_D_putBehind_40 ?_
    refine lv_iload hx hb d_D_putBehind_43 (lv_at hl 0 rfl) ?_
    refine lv_iload hx hb d_D_putBehind_45 (lv_at hl 5 rfl) ?_
    refine dIast 10 X I (by decide) rfl hq d_D_putBehind_47 (fun H locs I => ?_)
    refine lv_aload_n hx hb d_D_putBehind_48 rfl (lv_at hl 1 rfl) ?_
    refine dGetA 2 X I (by decide) (by decide) d_D_putBehind_49 ?_
    refine lv_iload_n hx hb d_D_putBehind_52 rfl (lv_at hl 2 rfl) ?_
    refine lv_dup2_11 hx hb d_D_putBehind_53 rfl rfl ?_
    refine dIald 2 X I (by decide) rfl ha d_D_putBehind_54 ?_
    refine lv_iconst (v := 1) hx hb d_D_putBehind_55 (by decide) ?_
    refine lv_iadd hx hb d_D_putBehind_56 ?_
    refine dIast 2 X I (by decide) rfl ha d_D_putBehind_57 (fun H locs I => ?_)
    refine lv_iconst (v := 1) hx hb d_D_putBehind_58 (by decide) ?_
    exact hret _ _ _ _ _ _ I hΦ d_D_putBehind_59 rfl
  · rw [if_pos c_5] at hΦ
    refine lv_iconst (v := 0) hx hb d_D_putBehind_8 (by decide) ?_
    exact hret _ _ _ _ _ _ I hΦ d_D_putBehind_9 rfl
def f_D_cutTo (τ : Mt) (a : Int32) (t : Int32) : Int32 × Mt := (if (f_D_writes τ a).1 = 0 then (0, (f_D_writes τ a).2) else (1, (da (f_D_writes τ a).2 2 a.toNatClampNeg t)))
set_option maxHeartbeats 4000000 in
set_option maxRecDepth 100000 in
theorem c_D_cutTo (l : Launch) (D : va_G) (ca : Nat → ClassId) (ad : Nat → Nat) (A : Nat → Prop) (τ : Mt) (a : Int32) (t : Int32) (ha : vp_in a 2) : Met l y_D_cutTo (Cond.code y_D_cutTo b_D_cutTo 3 (some .boolean) :: BASE) (rmK 1) (va_Pc [.ref (ad 0), .int a, .int t] (Pre D (tysD ca) A (wD ca ad τ))) (va_Qi (fun r u => (r, u) = f_D_cutTo τ a t) (Pst D A (wD ca ad)) A) 0 0 A := by
  refine enterZx (by decide) (Nat.le_of_ble_eq_true rfl) ?_
  intro Φ hΦ p e s m args below meth c Q X hret I ls hl
  have hx := X.x
  have hb := X.b
  have hl : lv_has ls 3 [(0, .ref (ad 0)), (1, .int a), (2, .int t)] := hl
  rw [f_D_cutTo] at hΦ
  refine lv_aload_n hx hb d_D_cutTo_0 rfl (lv_at hl 0 rfl) ?_
  refine lv_iload_n hx hb d_D_cutTo_1 rfl (lv_at hl 1 rfl) ?_
  refine goIf (wf := wD ca ad) I (rD X I [.int a] (c_D_writes l D ca ad A τ a ha) k_D_47 rfl hl rfl ⟨Nat.le_of_ble_eq_true rfl, Nat.le_of_ble_eq_true rfl⟩ (Nat.le_of_ble_eq_true rfl) ⟨Nat.le_refl 0, Nat.le_refl 0⟩ d_D_cutTo_2) (fun H locs I => ?_)
  refine lv_if_ne (tgt := 10) hx hb d_D_cutTo_5 (by decide) (fun c_5 => ?_) (fun c_5 => ?_)
  · rw [if_neg c_5] at hΦ
    refine lv_aload_n hx hb d_D_cutTo_10 rfl (lv_at hl 0 rfl) ?_
    refine dGetA 2 X I (by decide) (by decide) d_D_cutTo_11 ?_
    refine lv_iload_n hx hb d_D_cutTo_14 rfl (lv_at hl 1 rfl) ?_
    refine lv_iload_n hx hb d_D_cutTo_15 rfl (lv_at hl 2 rfl) ?_
    refine dIast 2 X I (by decide) rfl ha d_D_cutTo_16 (fun H locs I => ?_)
    refine lv_iconst (v := 1) hx hb d_D_cutTo_17 (by decide) ?_
    exact hret _ _ _ _ _ _ I hΦ d_D_cutTo_18 rfl
  · rw [if_pos c_5] at hΦ
    refine lv_iconst (v := 0) hx hb d_D_cutTo_8 (by decide) ?_
    exact hret _ _ _ _ _ _ I hΦ d_D_cutTo_9 rfl
def f_D_becomeTerm (τ : Mt) (a : Int32) (t : Int32) : Int32 × Mt := (if (f_D_writes τ a).1 = 0 then (0, (f_D_writes τ a).2) else (1, (da (f_D_writes τ a).2 1 a.toNatClampNeg t)))
set_option maxHeartbeats 4000000 in
set_option maxRecDepth 100000 in
theorem c_D_becomeTerm (l : Launch) (D : va_G) (ca : Nat → ClassId) (ad : Nat → Nat) (A : Nat → Prop) (τ : Mt) (a : Int32) (t : Int32) (ha : vp_in a 2) : Met l y_D_becomeTerm (Cond.code y_D_becomeTerm b_D_becomeTerm 3 (some .boolean) :: BASE) (rmK 1) (va_Pc [.ref (ad 0), .int a, .int t] (Pre D (tysD ca) A (wD ca ad τ))) (va_Qi (fun r u => (r, u) = f_D_becomeTerm τ a t) (Pst D A (wD ca ad)) A) 0 0 A := by
  refine enterZx (by decide) (Nat.le_of_ble_eq_true rfl) ?_
  intro Φ hΦ p e s m args below meth c Q X hret I ls hl
  have hx := X.x
  have hb := X.b
  have hl : lv_has ls 3 [(0, .ref (ad 0)), (1, .int a), (2, .int t)] := hl
  rw [f_D_becomeTerm] at hΦ
  refine lv_aload_n hx hb d_D_becomeTerm_0 rfl (lv_at hl 0 rfl) ?_
  refine lv_iload_n hx hb d_D_becomeTerm_1 rfl (lv_at hl 1 rfl) ?_
  refine goIf (wf := wD ca ad) I (rD X I [.int a] (c_D_writes l D ca ad A τ a ha) k_D_47 rfl hl rfl ⟨Nat.le_of_ble_eq_true rfl, Nat.le_of_ble_eq_true rfl⟩ (Nat.le_of_ble_eq_true rfl) ⟨Nat.le_refl 0, Nat.le_refl 0⟩ d_D_becomeTerm_2) (fun H locs I => ?_)
  refine lv_if_ne (tgt := 10) hx hb d_D_becomeTerm_5 (by decide) (fun c_5 => ?_) (fun c_5 => ?_)
  · rw [if_neg c_5] at hΦ
    refine lv_aload_n hx hb d_D_becomeTerm_10 rfl (lv_at hl 0 rfl) ?_
    refine dGetA 1 X I (by decide) (by decide) d_D_becomeTerm_11 ?_
    refine lv_iload_n hx hb d_D_becomeTerm_14 rfl (lv_at hl 1 rfl) ?_
    refine lv_iload_n hx hb d_D_becomeTerm_15 rfl (lv_at hl 2 rfl) ?_
    refine dIast 1 X I (by decide) rfl ha d_D_becomeTerm_16 (fun H locs I => ?_)
    refine lv_iconst (v := 1) hx hb d_D_becomeTerm_17 (by decide) ?_
    exact hret _ _ _ _ _ _ I hΦ d_D_becomeTerm_18 rfl
  · rw [if_pos c_5] at hΦ
    refine lv_iconst (v := 0) hx hb d_D_becomeTerm_8 (by decide) ?_
    exact hret _ _ _ _ _ _ I hΦ d_D_becomeTerm_9 rfl
def f_D_send_196 (τ : Mt) : Mt := (dz τ ((mz τ) + 1))
def f_D_send_67 : Nat → Mt → Int32 → Int32 → Int32 → Int32 → Int32 → Mt
  | 0, τ, _, _, _, _, _ => τ
  | fuel + 1, τ, a, k, v, v4, v5 => (if 9 ≤ v5 then (if k = 1 then (if v = 0 then (f_D_send_196 (da (da (da (da (da τ 11 (v4 + 4).toNatClampNeg (am τ 8 ((64 * a) + v).toNatClampNeg)) 11 (v4 + 5).toNatClampNeg (am (da τ 11 (v4 + 4).toNatClampNeg (am τ 8 ((64 * a) + v).toNatClampNeg)) 9 ((64 * a) + v).toNatClampNeg)) 11 (v4 + 6).toNatClampNeg (am (da (da τ 11 (v4 + 4).toNatClampNeg (am τ 8 ((64 * a) + v).toNatClampNeg)) 11 (v4 + 5).toNatClampNeg (am (da τ 11 (v4 + 4).toNatClampNeg (am τ 8 ((64 * a) + v).toNatClampNeg)) 9 ((64 * a) + v).toNatClampNeg)) 10 ((64 * a) + v).toNatClampNeg)) 11 (v4 + 7).toNatClampNeg 0) 11 (v4 + 8).toNatClampNeg (am (da (da (da (da τ 11 (v4 + 4).toNatClampNeg (am τ 8 ((64 * a) + v).toNatClampNeg)) 11 (v4 + 5).toNatClampNeg (am (da τ 11 (v4 + 4).toNatClampNeg (am τ 8 ((64 * a) + v).toNatClampNeg)) 9 ((64 * a) + v).toNatClampNeg)) 11 (v4 + 6).toNatClampNeg (am (da (da τ 11 (v4 + 4).toNatClampNeg (am τ 8 ((64 * a) + v).toNatClampNeg)) 11 (v4 + 5).toNatClampNeg (am (da τ 11 (v4 + 4).toNatClampNeg (am τ 8 ((64 * a) + v).toNatClampNeg)) 9 ((64 * a) + v).toNatClampNeg)) 10 ((64 * a) + v).toNatClampNeg)) 11 (v4 + 7).toNatClampNeg 0) 2 a.toNatClampNeg))) else (f_D_send_196 (da (da (da (da (da τ 11 (v4 + 4).toNatClampNeg (am τ 8 ((64 * a) + v).toNatClampNeg)) 11 (v4 + 5).toNatClampNeg (am (da τ 11 (v4 + 4).toNatClampNeg (am τ 8 ((64 * a) + v).toNatClampNeg)) 9 ((64 * a) + v).toNatClampNeg)) 11 (v4 + 6).toNatClampNeg (am (da (da τ 11 (v4 + 4).toNatClampNeg (am τ 8 ((64 * a) + v).toNatClampNeg)) 11 (v4 + 5).toNatClampNeg (am (da τ 11 (v4 + 4).toNatClampNeg (am τ 8 ((64 * a) + v).toNatClampNeg)) 9 ((64 * a) + v).toNatClampNeg)) 10 ((64 * a) + v).toNatClampNeg)) 11 (v4 + 7).toNatClampNeg (am (da (da (da τ 11 (v4 + 4).toNatClampNeg (am τ 8 ((64 * a) + v).toNatClampNeg)) 11 (v4 + 5).toNatClampNeg (am (da τ 11 (v4 + 4).toNatClampNeg (am τ 8 ((64 * a) + v).toNatClampNeg)) 9 ((64 * a) + v).toNatClampNeg)) 11 (v4 + 6).toNatClampNeg (am (da (da τ 11 (v4 + 4).toNatClampNeg (am τ 8 ((64 * a) + v).toNatClampNeg)) 11 (v4 + 5).toNatClampNeg (am (da τ 11 (v4 + 4).toNatClampNeg (am τ 8 ((64 * a) + v).toNatClampNeg)) 9 ((64 * a) + v).toNatClampNeg)) 10 ((64 * a) + v).toNatClampNeg)) 8 (((64 * a) + v) - 1).toNatClampNeg)) 11 (v4 + 8).toNatClampNeg (am (da (da (da (da τ 11 (v4 + 4).toNatClampNeg (am τ 8 ((64 * a) + v).toNatClampNeg)) 11 (v4 + 5).toNatClampNeg (am (da τ 11 (v4 + 4).toNatClampNeg (am τ 8 ((64 * a) + v).toNatClampNeg)) 9 ((64 * a) + v).toNatClampNeg)) 11 (v4 + 6).toNatClampNeg (am (da (da τ 11 (v4 + 4).toNatClampNeg (am τ 8 ((64 * a) + v).toNatClampNeg)) 11 (v4 + 5).toNatClampNeg (am (da τ 11 (v4 + 4).toNatClampNeg (am τ 8 ((64 * a) + v).toNatClampNeg)) 9 ((64 * a) + v).toNatClampNeg)) 10 ((64 * a) + v).toNatClampNeg)) 11 (v4 + 7).toNatClampNeg (am (da (da (da τ 11 (v4 + 4).toNatClampNeg (am τ 8 ((64 * a) + v).toNatClampNeg)) 11 (v4 + 5).toNatClampNeg (am (da τ 11 (v4 + 4).toNatClampNeg (am τ 8 ((64 * a) + v).toNatClampNeg)) 9 ((64 * a) + v).toNatClampNeg)) 11 (v4 + 6).toNatClampNeg (am (da (da τ 11 (v4 + 4).toNatClampNeg (am τ 8 ((64 * a) + v).toNatClampNeg)) 11 (v4 + 5).toNatClampNeg (am (da τ 11 (v4 + 4).toNatClampNeg (am τ 8 ((64 * a) + v).toNatClampNeg)) 9 ((64 * a) + v).toNatClampNeg)) 10 ((64 * a) + v).toNatClampNeg)) 8 (((64 * a) + v) - 1).toNatClampNeg)) 2 a.toNatClampNeg)))) else (f_D_send_196 τ)) else (f_D_send_67 fuel (da τ 11 (v4 + v5).toNatClampNeg 0) a k v v4 (v5 + 1)))
def f_D_send (τ : Mt) (a : Int32) (k : Int32) (v : Int32) : Mt := (if (mz τ) = 16 then τ else (f_D_send_67 6 (da (da (da (da τ 11 (9 * (mz τ)).toNatClampNeg k) 11 ((9 * (mz τ)) + 1).toNatClampNeg (1 - a)) 11 ((9 * (mz τ)) + 2).toNatClampNeg (am (da (da τ 11 (9 * (mz τ)).toNatClampNeg k) 11 ((9 * (mz τ)) + 1).toNatClampNeg (1 - a)) 1 a.toNatClampNeg)) 11 ((9 * (mz τ)) + 3).toNatClampNeg v) a k v (9 * (mz τ)) 4))
set_option maxHeartbeats 4000000 in
set_option maxRecDepth 100000 in
theorem c_D_send (l : Launch) (D : va_G) (ca : Nat → ClassId) (ad : Nat → Nat) (A : Nat → Prop) (τ : Mt) (a : Int32) (k : Int32) (v : Int32) (hZ : Dz τ) (ha : vp_in a 2) (hk : k = 1 → vp_in v 64) : Met l y_D_send (Cond.code y_D_send b_D_send 6 none :: BASE) (rmK 0) (va_Pc [.ref (ad 0), .int a, .int k, .int v] (Pre D (tysD ca) A (wD ca ad τ))) (va_Qv (fun u => u = f_D_send τ a k v) (Pst D A (wD ca ad)) A) 0 0 A := by
  refine enterVx (by decide) (Nat.le_of_ble_eq_true rfl) ?_
  intro Φ hΦ p e s m args below meth c Q X hret I ls hl
  have hx := X.x
  have hb := X.b
  have hl : lv_has ls 6 [(0, .ref (ad 0)), (1, .int a), (2, .int k), (3, .int v)] := hl
  have blk_196 : ∀ (τ : Mt) (H : Heap) (locs : List Loc) (ls : Array Slot), In D A s.heap (wD ca ad τ) H locs → lv_has ls 6 [(0, .ref (ad 0))] → Φ (f_D_send_196 τ) → W p l e (rmK 0) s m args below meth c H locs 0 0 Q (F0 m 196 ls []) := by
    intro τ H locs ls I hl hΦ
    rw [f_D_send_196] at hΦ
    refine lv_aload_n hx hb d_D_send_196 rfl (lv_at hl 0 rfl) ?_
    refine lv_dup hx hb d_D_send_197 rfl ?_
    refine dGetZ X I d_D_send_198 ?_
    refine lv_iconst (v := 1) hx hb d_D_send_201 (by decide) ?_
    refine lv_iadd hx hb d_D_send_202 ?_
    refine dPutZ X I d_D_send_203 (fun H locs I => ?_)
    exact hret _ _ _ _ _ I hΦ d_D_send_206
  have blk_67 : ∀ (fuel : Nat) (τ : Mt) (v4 : Int32) (v5 : Int32) (H : Heap) (locs : List Loc) (ls : Array Slot), In D A s.heap (wD ca ad τ) H locs → lv_has ls 6 [(0, .ref (ad 0)), (1, .int a), (2, .int k), (3, .int v), (4, .int v4), (5, .int v5)] → Φ (f_D_send_67 fuel τ a k v v4 v5) → (0 ≤ v4.toInt ∧ v4.toInt ≤ 135) → (4 ≤ v5.toInt ∧ v5.toInt ≤ 9) → (9 - v5.toInt < fuel) → W p l e (rmK 0) s m args below meth c H locs 0 0 Q (F0 m 67 ls []) := by
    intro fuel
    induction fuel with
    | zero => intro τ v4 v5 H locs ls I hl hΦ h4 h5 hf; exact absurd hf (by omega)
    | succ fuel ih =>
      intro τ v4 v5 H locs ls I hl hΦ h4 h5 hf
      rw [f_D_send_67] at hΦ
      refine lv_iload hx hb d_D_send_67 (lv_at hl 5 rfl) ?_
      refine lv_bipush (v := 9) hx hb d_D_send_69 (by decide) ?_
      refine lv_icmp_ge (tgt := 91) hx hb d_D_send_71 (by decide) (fun c_71 => ?_) (fun c_71 => ?_)
      · rw [if_pos c_71] at hΦ
        refine lv_iload_n hx hb d_D_send_91 rfl (lv_at hl 2 rfl) ?_
        refine lv_iconst (v := 1) hx hb d_D_send_92 (by decide) ?_
        refine lv_icmp_ne (tgt := 196) hx hb d_D_send_93 (by decide) (fun c_93 => ?_) (fun c_93 => ?_)
        · rw [if_neg c_93] at hΦ
          exact blk_196 τ _ _ _ I (lv_sub hl [0] rfl) hΦ
        · rw [if_pos c_93] at hΦ
          have hv := hk c_93
          have hq := v64 ha hv
          have a4 : vp_in (v4 + 4) 144 := vi (by rw [n_add (by rw [n_4]; omega) (by rw [n_4]; omega), n_4]; omega)
          have a5 : vp_in (v4 + 5) 144 := vi (by rw [n_add (by rw [n_5]; omega) (by rw [n_5]; omega), n_5]; omega)
          have a6 : vp_in (v4 + 6) 144 := vi (by rw [n_add (by rw [n_6]; omega) (by rw [n_6]; omega), n_6]; omega)
          have a7 : vp_in (v4 + 7) 144 := vi (by rw [n_add (by rw [n_7]; omega) (by rw [n_7]; omega), n_7]; omega)
          have a8 : vp_in (v4 + 8) 144 := vi (by rw [n_add (by rw [n_8]; omega) (by rw [n_8]; omega), n_8]; omega)
          refine lv_bipush (v := 64) hx hb d_D_send_96 (by decide) ?_
          refine lv_iload_n hx hb d_D_send_98 rfl (lv_at hl 1 rfl) ?_
          refine lv_imul hx hb d_D_send_99 ?_
          refine lv_iload_n hx hb d_D_send_100 rfl (lv_at hl 3 rfl) ?_
          refine lv_iadd hx hb d_D_send_101 ?_
          refine lv_istore (lv' := [(5, .int ((64 * a) + v)), (0, .ref (ad 0)), (1, .int a), (2, .int k), (3, .int v), (4, .int v4)]) hx hb d_D_send_102 hl (by decide) rfl (fun ls hl => ?_)
          refine lv_aload_n hx hb d_D_send_104 rfl (lv_at hl 1 rfl) ?_
          refine dGetA 11 X I (by decide) (by decide) d_D_send_105 ?_
          refine lv_iload hx hb d_D_send_108 (lv_at hl 5 rfl) ?_
          refine lv_iconst (v := 4) hx hb d_D_send_110 (by decide) ?_
          refine lv_iadd hx hb d_D_send_111 ?_
          refine lv_aload_n hx hb d_D_send_112 rfl (lv_at hl 1 rfl) ?_
          refine dGetA 8 X I (by decide) (by decide) d_D_send_113 ?_
          refine lv_iload hx hb d_D_send_116 (lv_at hl 0 rfl) ?_
          refine dIald 8 X I (by decide) rfl hq d_D_send_118 ?_
          refine dIast 11 X I (by decide) rfl a4 d_D_send_119 (fun H locs I => ?_)
          refine lv_aload_n hx hb d_D_send_120 rfl (lv_at hl 1 rfl) ?_
          refine dGetA 11 X I (by decide) (by decide) d_D_send_121 ?_
          refine lv_iload hx hb d_D_send_124 (lv_at hl 5 rfl) ?_
          refine lv_iconst (v := 5) hx hb d_D_send_126 (by decide) ?_
          refine lv_iadd hx hb d_D_send_127 ?_
          refine lv_aload_n hx hb d_D_send_128 rfl (lv_at hl 1 rfl) ?_
          refine dGetA 9 X I (by decide) (by decide) d_D_send_129 ?_
          refine lv_iload hx hb d_D_send_132 (lv_at hl 0 rfl) ?_
          refine dIald 9 X I (by decide) rfl hq d_D_send_134 ?_
          refine dIast 11 X I (by decide) rfl a5 d_D_send_135 (fun H locs I => ?_)
          refine lv_aload_n hx hb d_D_send_136 rfl (lv_at hl 1 rfl) ?_
          refine dGetA 11 X I (by decide) (by decide) d_D_send_137 ?_
          refine lv_iload hx hb d_D_send_140 (lv_at hl 5 rfl) ?_
          refine lv_bipush (v := 6) hx hb d_D_send_142 (by decide) ?_
          refine lv_iadd hx hb d_D_send_144 ?_
          refine lv_aload_n hx hb d_D_send_145 rfl (lv_at hl 1 rfl) ?_
          refine dGetA 10 X I (by decide) (by decide) d_D_send_146 ?_
          refine lv_iload hx hb d_D_send_149 (lv_at hl 0 rfl) ?_
          refine dIald 10 X I (by decide) rfl hq d_D_send_151 ?_
          refine dIast 11 X I (by decide) rfl a6 d_D_send_152 (fun H locs I => ?_)
          refine lv_aload_n hx hb d_D_send_153 rfl (lv_at hl 1 rfl) ?_
          refine dGetA 11 X I (by decide) (by decide) d_D_send_154 ?_
          refine lv_iload hx hb d_D_send_157 (lv_at hl 5 rfl) ?_
          refine lv_bipush (v := 7) hx hb d_D_send_159 (by decide) ?_
          refine lv_iadd hx hb d_D_send_161 ?_
          refine lv_iload_n hx hb d_D_send_162 rfl (lv_at hl 4 rfl) ?_
          refine lv_if_ne (tgt := 170) hx hb d_D_send_163 (by decide) (fun c_163 => ?_) (fun c_163 => ?_)
          · rw [if_neg c_163] at hΦ
            have hq1 : vp_in (64 * a + v - 1) 128 := by
              have h0 := c_163
              rw [n_eq, n_0] at h0
              have h1 := iv ha
              have h2 := iv hv
              have e2 := i64 ha ⟨h2.1, by omega⟩
              exact vi (by rw [n_sub (by rw [n_1, e2]; omega) (by rw [n_1, e2]; omega), n_1, e2]; omega)
            refine lv_aload_n hx hb d_D_send_170 rfl (lv_at hl 1 rfl) ?_
            refine dGetA 8 X I (by decide) (by decide) d_D_send_171 ?_
            refine lv_iload hx hb d_D_send_174 (lv_at hl 0 rfl) ?_
            refine lv_iconst (v := 1) hx hb d_D_send_176 (by decide) ?_
            refine lv_isub hx hb d_D_send_177 ?_
            refine dIald 8 X I (by decide) rfl hq1 d_D_send_178 ?_
            refine dIast 11 X I (by decide) rfl a7 d_D_send_179 (fun H locs I => ?_)
            refine lv_aload_n hx hb d_D_send_180 rfl (lv_at hl 1 rfl) ?_
            refine dGetA 11 X I (by decide) (by decide) d_D_send_181 ?_
            refine lv_iload hx hb d_D_send_184 (lv_at hl 5 rfl) ?_
            refine lv_bipush (v := 8) hx hb d_D_send_186 (by decide) ?_
            refine lv_iadd hx hb d_D_send_188 ?_
            refine lv_aload_n hx hb d_D_send_189 rfl (lv_at hl 1 rfl) ?_
            refine dGetA 2 X I (by decide) (by decide) d_D_send_190 ?_
            refine lv_iload_n hx hb d_D_send_193 rfl (lv_at hl 2 rfl) ?_
            refine dIald 2 X I (by decide) rfl ha d_D_send_194 ?_
            refine dIast 11 X I (by decide) rfl a8 d_D_send_195 (fun H locs I => ?_)
            exact blk_196 (da (da (da (da (da τ 11 (v4 + 4).toNatClampNeg (am τ 8 ((64 * a) + v).toNatClampNeg)) 11 (v4 + 5).toNatClampNeg (am (da τ 11 (v4 + 4).toNatClampNeg (am τ 8 ((64 * a) + v).toNatClampNeg)) 9 ((64 * a) + v).toNatClampNeg)) 11 (v4 + 6).toNatClampNeg (am (da (da τ 11 (v4 + 4).toNatClampNeg (am τ 8 ((64 * a) + v).toNatClampNeg)) 11 (v4 + 5).toNatClampNeg (am (da τ 11 (v4 + 4).toNatClampNeg (am τ 8 ((64 * a) + v).toNatClampNeg)) 9 ((64 * a) + v).toNatClampNeg)) 10 ((64 * a) + v).toNatClampNeg)) 11 (v4 + 7).toNatClampNeg (am (da (da (da τ 11 (v4 + 4).toNatClampNeg (am τ 8 ((64 * a) + v).toNatClampNeg)) 11 (v4 + 5).toNatClampNeg (am (da τ 11 (v4 + 4).toNatClampNeg (am τ 8 ((64 * a) + v).toNatClampNeg)) 9 ((64 * a) + v).toNatClampNeg)) 11 (v4 + 6).toNatClampNeg (am (da (da τ 11 (v4 + 4).toNatClampNeg (am τ 8 ((64 * a) + v).toNatClampNeg)) 11 (v4 + 5).toNatClampNeg (am (da τ 11 (v4 + 4).toNatClampNeg (am τ 8 ((64 * a) + v).toNatClampNeg)) 9 ((64 * a) + v).toNatClampNeg)) 10 ((64 * a) + v).toNatClampNeg)) 8 (((64 * a) + v) - 1).toNatClampNeg)) 11 (v4 + 8).toNatClampNeg (am (da (da (da (da τ 11 (v4 + 4).toNatClampNeg (am τ 8 ((64 * a) + v).toNatClampNeg)) 11 (v4 + 5).toNatClampNeg (am (da τ 11 (v4 + 4).toNatClampNeg (am τ 8 ((64 * a) + v).toNatClampNeg)) 9 ((64 * a) + v).toNatClampNeg)) 11 (v4 + 6).toNatClampNeg (am (da (da τ 11 (v4 + 4).toNatClampNeg (am τ 8 ((64 * a) + v).toNatClampNeg)) 11 (v4 + 5).toNatClampNeg (am (da τ 11 (v4 + 4).toNatClampNeg (am τ 8 ((64 * a) + v).toNatClampNeg)) 9 ((64 * a) + v).toNatClampNeg)) 10 ((64 * a) + v).toNatClampNeg)) 11 (v4 + 7).toNatClampNeg (am (da (da (da τ 11 (v4 + 4).toNatClampNeg (am τ 8 ((64 * a) + v).toNatClampNeg)) 11 (v4 + 5).toNatClampNeg (am (da τ 11 (v4 + 4).toNatClampNeg (am τ 8 ((64 * a) + v).toNatClampNeg)) 9 ((64 * a) + v).toNatClampNeg)) 11 (v4 + 6).toNatClampNeg (am (da (da τ 11 (v4 + 4).toNatClampNeg (am τ 8 ((64 * a) + v).toNatClampNeg)) 11 (v4 + 5).toNatClampNeg (am (da τ 11 (v4 + 4).toNatClampNeg (am τ 8 ((64 * a) + v).toNatClampNeg)) 9 ((64 * a) + v).toNatClampNeg)) 10 ((64 * a) + v).toNatClampNeg)) 8 (((64 * a) + v) - 1).toNatClampNeg)) 2 a.toNatClampNeg)) _ _ _ I (lv_sub hl [1] rfl) hΦ
          · rw [if_pos c_163] at hΦ
            refine lv_iconst (v := 0) hx hb d_D_send_166 (by decide) ?_
            refine lv_goto (tgt := 179) hx hb d_D_send_167 (by decide) ?_
            refine dIast 11 X I (by decide) rfl a7 d_D_send_179 (fun H locs I => ?_)
            refine lv_aload_n hx hb d_D_send_180 rfl (lv_at hl 1 rfl) ?_
            refine dGetA 11 X I (by decide) (by decide) d_D_send_181 ?_
            refine lv_iload hx hb d_D_send_184 (lv_at hl 5 rfl) ?_
            refine lv_bipush (v := 8) hx hb d_D_send_186 (by decide) ?_
            refine lv_iadd hx hb d_D_send_188 ?_
            refine lv_aload_n hx hb d_D_send_189 rfl (lv_at hl 1 rfl) ?_
            refine dGetA 2 X I (by decide) (by decide) d_D_send_190 ?_
            refine lv_iload_n hx hb d_D_send_193 rfl (lv_at hl 2 rfl) ?_
            refine dIald 2 X I (by decide) rfl ha d_D_send_194 ?_
            refine dIast 11 X I (by decide) rfl a8 d_D_send_195 (fun H locs I => ?_)
            exact blk_196 (da (da (da (da (da τ 11 (v4 + 4).toNatClampNeg (am τ 8 ((64 * a) + v).toNatClampNeg)) 11 (v4 + 5).toNatClampNeg (am (da τ 11 (v4 + 4).toNatClampNeg (am τ 8 ((64 * a) + v).toNatClampNeg)) 9 ((64 * a) + v).toNatClampNeg)) 11 (v4 + 6).toNatClampNeg (am (da (da τ 11 (v4 + 4).toNatClampNeg (am τ 8 ((64 * a) + v).toNatClampNeg)) 11 (v4 + 5).toNatClampNeg (am (da τ 11 (v4 + 4).toNatClampNeg (am τ 8 ((64 * a) + v).toNatClampNeg)) 9 ((64 * a) + v).toNatClampNeg)) 10 ((64 * a) + v).toNatClampNeg)) 11 (v4 + 7).toNatClampNeg 0) 11 (v4 + 8).toNatClampNeg (am (da (da (da (da τ 11 (v4 + 4).toNatClampNeg (am τ 8 ((64 * a) + v).toNatClampNeg)) 11 (v4 + 5).toNatClampNeg (am (da τ 11 (v4 + 4).toNatClampNeg (am τ 8 ((64 * a) + v).toNatClampNeg)) 9 ((64 * a) + v).toNatClampNeg)) 11 (v4 + 6).toNatClampNeg (am (da (da τ 11 (v4 + 4).toNatClampNeg (am τ 8 ((64 * a) + v).toNatClampNeg)) 11 (v4 + 5).toNatClampNeg (am (da τ 11 (v4 + 4).toNatClampNeg (am τ 8 ((64 * a) + v).toNatClampNeg)) 9 ((64 * a) + v).toNatClampNeg)) 10 ((64 * a) + v).toNatClampNeg)) 11 (v4 + 7).toNatClampNeg 0) 2 a.toNatClampNeg)) _ _ _ I (lv_sub hl [1] rfl) hΦ
      · rw [if_neg c_71] at hΦ
        have hlt : v5.toInt < 9 := by have := c_71; rw [n_le, n_9] at this; omega
        have a45 : vp_in (v4 + v5) 144 := vi (by rw [n_add (by omega) (by omega)]; omega)
        have e1 : (v5 + 1).toInt = v5.toInt + 1 := by rw [n_add (by rw [n_1]; omega) (by rw [n_1]; omega), n_1]
        refine lv_aload_n hx hb d_D_send_74 rfl (lv_at hl 0 rfl) ?_
        refine dGetA 11 X I (by decide) (by decide) d_D_send_75 ?_
        refine lv_iload hx hb d_D_send_78 (lv_at hl 4 rfl) ?_
        refine lv_iload hx hb d_D_send_80 (lv_at hl 5 rfl) ?_
        refine lv_iadd hx hb d_D_send_82 ?_
        refine lv_iconst (v := 0) hx hb d_D_send_83 (by decide) ?_
        refine dIast 11 X I (by decide) rfl a45 d_D_send_84 (fun H locs I => ?_)
        refine lv_iinc (v := (v5 + 1)) (lv' := [(5, .int (v5 + 1)), (0, .ref (ad 0)), (1, .int a), (2, .int k), (3, .int v), (4, .int v4)]) hx hb d_D_send_85 hl (k := 5) rfl rfl (by decide) rfl (fun ls hl => ?_)
        refine lv_goto (tgt := 67) hx hb d_D_send_88 (by decide) ?_
        exact ih (da τ 11 (v4 + v5).toNatClampNeg 0) v4 (v5 + 1) _ _ _ I (lv_sub hl [1, 2, 3, 4, 5, 0] rfl) hΦ h4 ⟨by rw [e1]; omega, by rw [e1]; omega⟩ (by rw [e1]; omega)
  rw [f_D_send] at hΦ
  refine lv_aload_n hx hb d_D_send_0 rfl (lv_at hl 0 rfl) ?_
  refine dGetZ X I d_D_send_1 ?_
  refine lv_bipush (v := 16) hx hb d_D_send_4 (by decide) ?_
  refine lv_icmp_ne (tgt := 10) hx hb d_D_send_6 (by decide) (fun c_6 => ?_) (fun c_6 => ?_)
  · rw [if_neg c_6] at hΦ
    have hz : (mz τ).toInt ≤ 15 := by have h1 := c_6; rw [n_eq, n_16] at h1; have h2 := hZ; unfold Dz at h2; omega
    have hz0 := hZ.1
    have e9 : (9 * mz τ).toInt = 9 * (mz τ).toInt := by rw [n_mul (by rw [n_9]; omega) (by rw [n_9]; omega), n_9]
    have b0 : vp_in (9 * mz τ) 144 := vi (by rw [e9]; omega)
    have b1 : vp_in (9 * mz τ + 1) 144 := vi (by rw [n_add (by rw [n_1, e9]; omega) (by rw [n_1, e9]; omega), n_1, e9]; omega)
    have b2 : vp_in (9 * mz τ + 2) 144 := vi (by rw [n_add (by rw [n_2, e9]; omega) (by rw [n_2, e9]; omega), n_2, e9]; omega)
    have b3 : vp_in (9 * mz τ + 3) 144 := vi (by rw [n_add (by rw [n_3, e9]; omega) (by rw [n_3, e9]; omega), n_3, e9]; omega)
    refine lv_bipush (v := 9) hx hb d_D_send_10 (by decide) ?_
    refine lv_aload_n hx hb d_D_send_12 rfl (lv_at hl 0 rfl) ?_
    refine dGetZ X I d_D_send_13 ?_
    refine lv_imul hx hb d_D_send_16 ?_
    refine lv_istore (lv' := [(4, .int (9 * (mz τ))), (0, .ref (ad 0)), (1, .int a), (2, .int k), (3, .int v)]) hx hb d_D_send_17 hl (by decide) rfl (fun ls hl => ?_)
    refine lv_aload_n hx hb d_D_send_19 rfl (lv_at hl 1 rfl) ?_
    refine dGetA 11 X I (by decide) (by decide) d_D_send_20 ?_
    refine lv_iload hx hb d_D_send_23 (lv_at hl 0 rfl) ?_
    refine lv_iload_n hx hb d_D_send_25 rfl (lv_at hl 3 rfl) ?_
    refine dIast 11 X I (by decide) rfl b0 d_D_send_26 (fun H locs I => ?_)
    refine lv_aload_n hx hb d_D_send_27 rfl (lv_at hl 1 rfl) ?_
    refine dGetA 11 X I (by decide) (by decide) d_D_send_28 ?_
    refine lv_iload hx hb d_D_send_31 (lv_at hl 0 rfl) ?_
    refine lv_iconst (v := 1) hx hb d_D_send_33 (by decide) ?_
    refine lv_iadd hx hb d_D_send_34 ?_
    refine lv_iconst (v := 1) hx hb d_D_send_35 (by decide) ?_
    refine lv_iload_n hx hb d_D_send_36 rfl (lv_at hl 2 rfl) ?_
    refine lv_isub hx hb d_D_send_37 ?_
    refine dIast 11 X I (by decide) rfl b1 d_D_send_38 (fun H locs I => ?_)
    refine lv_aload_n hx hb d_D_send_39 rfl (lv_at hl 1 rfl) ?_
    refine dGetA 11 X I (by decide) (by decide) d_D_send_40 ?_
    refine lv_iload hx hb d_D_send_43 (lv_at hl 0 rfl) ?_
    refine lv_iconst (v := 2) hx hb d_D_send_45 (by decide) ?_
    refine lv_iadd hx hb d_D_send_46 ?_
    refine lv_aload_n hx hb d_D_send_47 rfl (lv_at hl 1 rfl) ?_
    refine dGetA 1 X I (by decide) (by decide) d_D_send_48 ?_
    refine lv_iload_n hx hb d_D_send_51 rfl (lv_at hl 2 rfl) ?_
    refine dIald 1 X I (by decide) rfl ha d_D_send_52 ?_
    refine dIast 11 X I (by decide) rfl b2 d_D_send_53 (fun H locs I => ?_)
    refine lv_aload_n hx hb d_D_send_54 rfl (lv_at hl 1 rfl) ?_
    refine dGetA 11 X I (by decide) (by decide) d_D_send_55 ?_
    refine lv_iload hx hb d_D_send_58 (lv_at hl 0 rfl) ?_
    refine lv_iconst (v := 3) hx hb d_D_send_60 (by decide) ?_
    refine lv_iadd hx hb d_D_send_61 ?_
    refine lv_iload_n hx hb d_D_send_62 rfl (lv_at hl 4 rfl) ?_
    refine dIast 11 X I (by decide) rfl b3 d_D_send_63 (fun H locs I => ?_)
    refine lv_iconst (v := 4) hx hb d_D_send_64 (by decide) ?_
    refine lv_istore (lv' := [(5, .int 4), (4, .int (9 * (mz τ))), (0, .ref (ad 0)), (1, .int a), (2, .int k), (3, .int v)]) hx hb d_D_send_65 hl (by decide) rfl (fun ls hl => ?_)
    exact blk_67 6 (da (da (da (da τ 11 (9 * (mz τ)).toNatClampNeg k) 11 ((9 * (mz τ)) + 1).toNatClampNeg (1 - a)) 11 ((9 * (mz τ)) + 2).toNatClampNeg (am (da (da τ 11 (9 * (mz τ)).toNatClampNeg k) 11 ((9 * (mz τ)) + 1).toNatClampNeg (1 - a)) 1 a.toNatClampNeg)) 11 ((9 * (mz τ)) + 3).toNatClampNeg v) (9 * (mz τ)) 4 _ _ _ I (lv_sub hl [2, 3, 4, 5, 1, 0] rfl) hΦ ⟨by rw [e9]; omega, by rw [e9]; omega⟩ (by decide) (by decide)
  · rw [if_pos c_6] at hΦ
    exact hret _ _ _ _ _ I hΦ d_D_send_9
def f_D_remove_15 : Nat → Mt → Int32 → Mt
  | 0, τ, _ => τ
  | fuel + 1, τ, v2 => (if (9 * (mz τ)) ≤ v2 then τ else (f_D_remove_15 fuel (da τ 11 v2.toNatClampNeg (am τ 11 (v2 + 9).toNatClampNeg)) (v2 + 1)))
def f_D_remove (τ : Mt) (a : Int32) : Mt := (f_D_remove_15 150 (dz τ ((mz τ) - 1)) (9 * a))
set_option maxHeartbeats 4000000 in
set_option maxRecDepth 100000 in
theorem c_D_remove (l : Launch) (D : va_G) (ca : Nat → ClassId) (ad : Nat → Nat) (A : Nat → Prop) (τ : Mt) (a : Int32) (hz0 : 1 ≤ (mz τ).toInt ∧ (mz τ).toInt ≤ 16) (hi : vp_in a 16) : Met l y_D_remove (Cond.code y_D_remove b_D_remove 3 none :: BASE) (rmK 0) (va_Pc [.ref (ad 0), .int a] (Pre D (tysD ca) A (wD ca ad τ))) (va_Qv (fun u => u = f_D_remove τ a) (Pst D A (wD ca ad)) A) 0 0 A := by
  refine enterVx (by decide) (Nat.le_of_ble_eq_true rfl) ?_
  intro Φ hΦ p e s m args below meth c Q X hret I ls hl
  have hx := X.x
  have hb := X.b
  have hl : lv_has ls 3 [(0, .ref (ad 0)), (1, .int a)] := hl
  have blk_15 : ∀ (fuel : Nat) (τ : Mt) (v2 : Int32) (H : Heap) (locs : List Loc) (ls : Array Slot), In D A s.heap (wD ca ad τ) H locs → lv_has ls 3 [(0, .ref (ad 0)), (2, .int v2)] → Φ (f_D_remove_15 fuel τ v2) → (0 ≤ (mz τ).toInt ∧ (mz τ).toInt ≤ 15) → (0 ≤ v2.toInt ∧ v2.toInt ≤ 144) → (144 - v2.toInt < fuel) → W p l e (rmK 0) s m args below meth c H locs 0 0 Q (F0 m 15 ls []) := by
    intro fuel
    induction fuel with
    | zero => intro τ v2 H locs ls I hl hΦ hz h2 hf; exact absurd hf (by omega)
    | succ fuel ih =>
      intro τ v2 H locs ls I hl hΦ hz h2 hf
      rw [f_D_remove_15] at hΦ
      refine lv_iload_n hx hb d_D_remove_15 rfl (lv_at hl 1 rfl) ?_
      refine lv_bipush (v := 9) hx hb d_D_remove_16 (by decide) ?_
      refine lv_aload_n hx hb d_D_remove_18 rfl (lv_at hl 0 rfl) ?_
      refine dGetZ X I d_D_remove_19 ?_
      refine lv_imul hx hb d_D_remove_22 ?_
      refine lv_icmp_ge (tgt := 47) hx hb d_D_remove_23 (by decide) (fun c_23 => ?_) (fun c_23 => ?_)
      · rw [if_pos c_23] at hΦ
        exact hret _ _ _ _ _ I hΦ d_D_remove_47
      · rw [if_neg c_23] at hΦ
        have hlt : v2.toInt < 9 * (mz τ).toInt := by
          have h1 := c_23
          rw [n_le, n_mul (by rw [n_9]; omega) (by rw [n_9]; omega), n_9] at h1
          omega
        have k2 : vp_in v2 144 := vi ⟨h2.1, by omega⟩
        have k9 : vp_in (v2 + 9) 144 := vi (by rw [n_add (by rw [n_9]; omega) (by rw [n_9]; omega), n_9]; omega)
        have e1 : (v2 + 1).toInt = v2.toInt + 1 := by rw [n_add (by rw [n_1]; omega) (by rw [n_1]; omega), n_1]
        refine lv_aload_n hx hb d_D_remove_26 rfl (lv_at hl 0 rfl) ?_
        refine dGetA 11 X I (by decide) (by decide) d_D_remove_27 ?_
        refine lv_iload_n hx hb d_D_remove_30 rfl (lv_at hl 1 rfl) ?_
        refine lv_aload_n hx hb d_D_remove_31 rfl (lv_at hl 0 rfl) ?_
        refine dGetA 11 X I (by decide) (by decide) d_D_remove_32 ?_
        refine lv_iload_n hx hb d_D_remove_35 rfl (lv_at hl 1 rfl) ?_
        refine lv_bipush (v := 9) hx hb d_D_remove_36 (by decide) ?_
        refine lv_iadd hx hb d_D_remove_38 ?_
        refine dIald 11 X I (by decide) rfl k9 d_D_remove_39 ?_
        refine dIast 11 X I (by decide) rfl k2 d_D_remove_40 (fun H locs I => ?_)
        refine lv_iinc (v := (v2 + 1)) (lv' := [(2, .int (v2 + 1)), (0, .ref (ad 0))]) hx hb d_D_remove_41 hl (k := 1) rfl rfl (by decide) rfl (fun ls hl => ?_)
        refine lv_goto (tgt := 15) hx hb d_D_remove_44 (by decide) ?_
        exact ih (da τ 11 v2.toNatClampNeg (am τ 11 (v2 + 9).toNatClampNeg)) (v2 + 1) _ _ _ I (lv_sub hl [1, 0] rfl) hΦ hz ⟨by rw [e1]; omega, by rw [e1]; omega⟩ (by rw [e1]; omega)
  rw [f_D_remove] at hΦ
  refine lv_aload_n hx hb d_D_remove_0 rfl (lv_at hl 0 rfl) ?_
  refine lv_dup hx hb d_D_remove_1 rfl ?_
  refine dGetZ X I d_D_remove_2 ?_
  refine lv_iconst (v := 1) hx hb d_D_remove_5 (by decide) ?_
  refine lv_isub hx hb d_D_remove_6 ?_
  refine dPutZ X I d_D_remove_7 (fun H locs I => ?_)
  refine lv_bipush (v := 9) hx hb d_D_remove_10 (by decide) ?_
  refine lv_iload_n hx hb d_D_remove_12 rfl (lv_at hl 1 rfl) ?_
  refine lv_imul hx hb d_D_remove_13 ?_
  have h1 := iv hi
  have e9 : (9 * a).toInt = 9 * a.toInt := by rw [n_mul (by rw [n_9]; omega) (by rw [n_9]; omega), n_9]
  have hz1 : 0 ≤ (mz (dz τ (mz τ - 1))).toInt ∧ (mz (dz τ (mz τ - 1))).toInt ≤ 15 := by
    show 0 ≤ (mz τ - 1).toInt ∧ (mz τ - 1).toInt ≤ 15
    rw [n_sub (by rw [n_1]; omega) (by rw [n_1]; omega), n_1]
    omega
  refine lv_istore_n (lv' := [(2, .int (9 * a)), (0, .ref (ad 0)), (1, .int a)]) hx hb d_D_remove_14 rfl hl (by decide) rfl (fun ls hl => ?_)
  exact blk_15 150 (dz τ ((mz τ) - 1)) (9 * a) _ _ _ I (lv_sub hl [1, 0] rfl) hΦ hz1 ⟨by rw [e9]; omega, by rw [e9]; omega⟩ (by rw [e9]; omega)
end
section
theorem dct_k {τ : Mt} {a t : Int32} : mz (f_D_cutTo τ a t).2 = mz τ ∧ am (f_D_cutTo τ a t).2 12 = am τ 12 := by
  have h := @dwr_k τ a
  have h12 := h.2 12 (by decide) (by decide) (by decide) (by decide)
  unfold f_D_cutTo
  split
  · exact ⟨h.1, h12⟩
  · exact ⟨h.1, by rw [am_o (by decide)]; exact h12⟩
theorem dpb_k {τ : Mt} {a t k v : Int32} : mz (f_D_putBehind τ a t k v).2 = mz τ ∧ am (f_D_putBehind τ a t k v).2 12 = am τ 12 := by
  have h := @dwr_k τ a
  have h12 := h.2 12 (by decide) (by decide) (by decide) (by decide)
  unfold f_D_putBehind
  split
  · exact ⟨h.1, h12⟩
  · refine ⟨h.1, ?_⟩
    rw [am_o (by decide), am_o (by decide), am_o (by decide), am_o (by decide)]
    exact h12
theorem dbt_k {τ : Mt} {a t : Int32} : mz (f_D_becomeTerm τ a t).2 = mz τ ∧ am (f_D_becomeTerm τ a t).2 12 = am τ 12 ∧ am (f_D_becomeTerm τ a t).2 2 = am τ 2 := by
  have h := @dwr_k τ a
  have h12 := h.2 12 (by decide) (by decide) (by decide) (by decide)
  have h2 := h.2 2 (by decide) (by decide) (by decide) (by decide)
  unfold f_D_becomeTerm
  split
  · exact ⟨h.1, h12, h2⟩
  · refine ⟨h.1, ?_, ?_⟩
    · rw [am_o (by decide)]; exact h12
    · rw [am_o (by decide)]; exact h2
theorem Dz.of {τ τ' : Mt} (h : Dz τ) (k : mz τ' = mz τ) : Dz τ' := by
  unfold Dz
  rw [k]
  exact h
theorem dpb_len {τ : Mt} {a t k v : Int32} (h : ¬ (f_D_putBehind τ a t k v).1 = 0) : am (f_D_putBehind τ a t k v).2 2 a.toNatClampNeg = am τ 2 a.toNatClampNeg + 1 := by
  unfold f_D_putBehind at h ⊢
  split
  · rename_i c
    rw [if_pos c] at h
    exact absurd rfl h
  · rw [← (@dwr_k τ a).2 2 (by decide) (by decide) (by decide) (by decide)]
    simp [am, da, up2]
def f_D_shipIfThere (τ : Mt) (a : Int32) (i : Int32) : Mt := (if i < 0 then τ else (if (am τ 2 a.toNatClampNeg) ≤ i then τ else (f_D_send τ a 1 i)))
set_option maxHeartbeats 4000000 in
set_option maxRecDepth 100000 in
theorem c_D_shipIfThere (l : Launch) (D : va_G) (ca : Nat → ClassId) (ad : Nat → Nat) (A : Nat → Prop) (τ : Mt) (a : Int32) (i : Int32) (hZ : Dz τ) (ha : vp_in a 2) (hlen : (am τ 2 a.toNatClampNeg).toInt ≤ 64) : Met l y_D_shipIfThere (Cond.code y_D_shipIfThere b_D_shipIfThere 3 none :: BASE) (rmK 1) (va_Pc [.ref (ad 0), .int a, .int i] (Pre D (tysD ca) A (wD ca ad τ))) (va_Qv (fun u => u = f_D_shipIfThere τ a i) (Pst D A (wD ca ad)) A) 0 0 A := by
  refine enterVx (by decide) (Nat.le_of_ble_eq_true rfl) ?_
  intro Φ hΦ p e s m args below meth c Q X hret I ls hl
  have hx := X.x
  have hb := X.b
  have hl : lv_has ls 3 [(0, .ref (ad 0)), (1, .int a), (2, .int i)] := hl
  rw [f_D_shipIfThere] at hΦ
  refine lv_iload_n hx hb d_D_shipIfThere_0 rfl (lv_at hl 2 rfl) ?_
  refine lv_if_lt (tgt := 21) hx hb d_D_shipIfThere_1 (by decide) (fun c_1 => ?_) (fun c_1 => ?_)
  · rw [if_pos c_1] at hΦ
    exact hret _ _ _ _ _ I hΦ d_D_shipIfThere_21
  · rw [if_neg c_1] at hΦ
    refine lv_iload_n hx hb d_D_shipIfThere_4 rfl (lv_at hl 2 rfl) ?_
    refine lv_aload_n hx hb d_D_shipIfThere_5 rfl (lv_at hl 0 rfl) ?_
    refine dGetA 2 X I (by decide) (by decide) d_D_shipIfThere_6 ?_
    refine lv_iload_n hx hb d_D_shipIfThere_9 rfl (lv_at hl 1 rfl) ?_
    refine dIald 2 X I (by decide) rfl ha d_D_shipIfThere_10 ?_
    refine lv_icmp_ge (tgt := 21) hx hb d_D_shipIfThere_11 (by decide) (fun c_11 => ?_) (fun c_11 => ?_)
    · rw [if_pos c_11] at hΦ
      exact hret _ _ _ _ _ I hΦ d_D_shipIfThere_21
    · rw [if_neg c_11] at hΦ
      have hq : vp_in i 64 := by
        have h1 := c_1
        have h2 := c_11
        rw [n_lt, n_0] at h1
        rw [n_le] at h2
        exact vi ⟨by omega, by omega⟩
      refine lv_aload_n hx hb d_D_shipIfThere_14 rfl (lv_at hl 0 rfl) ?_
      refine lv_iload_n hx hb d_D_shipIfThere_15 rfl (lv_at hl 1 rfl) ?_
      refine lv_iconst (v := 1) hx hb d_D_shipIfThere_16 (by decide) ?_
      refine lv_iload_n hx hb d_D_shipIfThere_17 rfl (lv_at hl 2 rfl) ?_
      refine goVf (wf := wD ca ad) I (rD X I [.int a, .int 1, .int i] (c_D_send l D ca ad A τ a 1 i hZ ha (fun _ => hq)) k_D_61 rfl hl rfl ⟨Nat.le_of_ble_eq_true rfl, Nat.le_of_ble_eq_true rfl⟩ (Nat.le_of_ble_eq_true rfl) ⟨Nat.le_refl 0, Nat.le_refl 0⟩ d_D_shipIfThere_18) (fun H locs I => ?_)
      exact hret _ _ _ _ _ I hΦ d_D_shipIfThere_21
def f_D_shipped_214 (τ : Mt) (a : Int32) (i : Int32) : Mt := (f_D_send τ a 2 i)
def f_D_shipped_182 (τ : Mt) (a : Int32) (i : Int32) : Mt := (if (am τ 2 a.toNatClampNeg) ≤ (am τ 12 (8 : Int32).toNatClampNeg) then (f_D_shipped_214 τ a i) else (if (f_D_cutTo τ a (am τ 12 (8 : Int32).toNatClampNeg)).1 = 0 then (f_D_cutTo τ a (am τ 12 (8 : Int32).toNatClampNeg)).2 else (f_D_shipped_214 (f_D_cutTo τ a (am τ 12 (8 : Int32).toNatClampNeg)).2 a i)))
def f_D_shipped_144 (τ : Mt) (a : Int32) (i : Int32) : Mt := (if (am τ 2 a.toNatClampNeg) = i then (if (f_D_putBehind τ a (am τ 12 (4 : Int32).toNatClampNeg) (am τ 12 (5 : Int32).toNatClampNeg) (am τ 12 (6 : Int32).toNatClampNeg)).1 = 0 then (f_D_putBehind τ a (am τ 12 (4 : Int32).toNatClampNeg) (am τ 12 (5 : Int32).toNatClampNeg) (am τ 12 (6 : Int32).toNatClampNeg)).2 else (f_D_shipped_182 (f_D_putBehind τ a (am τ 12 (4 : Int32).toNatClampNeg) (am τ 12 (5 : Int32).toNatClampNeg) (am τ 12 (6 : Int32).toNatClampNeg)).2 a i)) else (f_D_shipped_182 τ a i))
def f_D_shipped_134 (τ : Mt) (a : Int32) (i : Int32) : Mt := (if (f_D_cutTo τ a i).1 = 0 then (f_D_cutTo τ a i).2 else (f_D_shipped_144 (f_D_cutTo τ a i).2 a i))
def f_D_shipped_71 (τ : Mt) (a : Int32) (i : Int32) : Mt := (if (am τ 2 a.toNatClampNeg) ≤ i then (f_D_shipped_144 τ a i) else (if (am τ 8 ((64 * a) + i).toNatClampNeg) = (am τ 12 (4 : Int32).toNatClampNeg) then (if (am τ 9 ((64 * a) + i).toNatClampNeg) = (am τ 12 (5 : Int32).toNatClampNeg) then (if (am τ 10 ((64 * a) + i).toNatClampNeg) = (am τ 12 (6 : Int32).toNatClampNeg) then (f_D_shipped_144 τ a i) else (f_D_shipped_134 τ a i)) else (f_D_shipped_134 τ a i)) else (f_D_shipped_134 τ a i)))
def f_D_shipped (τ : Mt) (a : Int32) (i : Int32) : Mt := (if i ≤ (am τ 2 a.toNatClampNeg) then (if i ≤ 0 then (f_D_shipped_71 τ a i) else (if (am τ 8 (((64 * a) + i) - 1).toNatClampNeg) = (am τ 12 (7 : Int32).toNatClampNeg) then (f_D_shipped_71 τ a i) else (if (f_D_cutTo τ a (i - 1)).1 = 0 then (f_D_cutTo τ a (i - 1)).2 else (f_D_send (f_D_cutTo τ a (i - 1)).2 a 3 (i - 1))))) else (f_D_send τ a 3 (am τ 2 a.toNatClampNeg)))
set_option maxHeartbeats 4000000 in
set_option maxRecDepth 100000 in
theorem c_D_shipped (l : Launch) (D : va_G) (ca : Nat → ClassId) (ad : Nat → Nat) (A : Nat → Prop) (τ : Mt) (a : Int32) (i : Int32) (hZ : Dz τ) (ha : vp_in a 2) (hi : vp_in i 64) : Met l y_D_shipped (Cond.code y_D_shipped b_D_shipped 4 none :: BASE) (rmK 2) (va_Pc [.ref (ad 0), .int a, .int i] (Pre D (tysD ca) A (wD ca ad τ))) (va_Qv (fun u => u = f_D_shipped τ a i) (Pst D A (wD ca ad)) A) 0 0 A := by
  refine enterVx (by decide) (Nat.le_of_ble_eq_true rfl) ?_
  intro Φ hΦ p e s m args below meth c Q X hret I ls hl
  have hx := X.x
  have hb := X.b
  have hl : lv_has ls 4 [(0, .ref (ad 0)), (1, .int a), (2, .int i)] := hl
  have blk_214 : ∀ (τ : Mt) (H : Heap) (locs : List Loc) (ls : Array Slot), In D A s.heap (wD ca ad τ) H locs → lv_has ls 4 [(0, .ref (ad 0)), (1, .int a), (2, .int i)] → Φ (f_D_shipped_214 τ a i) → (Dz τ) → W p l e (rmK 2) s m args below meth c H locs 0 0 Q (F0 m 214 ls []) := by
    intro τ H locs ls I hl hΦ hZ
    rw [f_D_shipped_214] at hΦ
    refine lv_aload_n hx hb d_D_shipped_214 rfl (lv_at hl 0 rfl) ?_
    refine lv_iload_n hx hb d_D_shipped_215 rfl (lv_at hl 1 rfl) ?_
    refine lv_iconst (v := 2) hx hb d_D_shipped_216 (by decide) ?_
    refine lv_iload_n hx hb d_D_shipped_217 rfl (lv_at hl 2 rfl) ?_
    refine goVf (wf := wD ca ad) I (rD X I [.int a, .int 2, .int i] (c_D_send l D ca ad A τ a 2 i hZ ha (fun h => absurd h (by decide))) k_D_61 rfl hl rfl ⟨Nat.le_of_ble_eq_true rfl, Nat.le_of_ble_eq_true rfl⟩ (Nat.le_of_ble_eq_true rfl) ⟨Nat.le_refl 0, Nat.le_refl 0⟩ d_D_shipped_218) (fun H locs I => ?_)
    exact hret _ _ _ _ _ I hΦ d_D_shipped_221
  have blk_182 : ∀ (τ : Mt) (H : Heap) (locs : List Loc) (ls : Array Slot), In D A s.heap (wD ca ad τ) H locs → lv_has ls 4 [(0, .ref (ad 0)), (1, .int a), (2, .int i)] → Φ (f_D_shipped_182 τ a i) → (Dz τ) → W p l e (rmK 2) s m args below meth c H locs 0 0 Q (F0 m 182 ls []) := by
    intro τ H locs ls I hl hΦ hZ
    rw [f_D_shipped_182] at hΦ
    refine lv_aload_n hx hb d_D_shipped_182 rfl (lv_at hl 0 rfl) ?_
    refine dGetA 2 X I (by decide) (by decide) d_D_shipped_183 ?_
    refine lv_iload_n hx hb d_D_shipped_186 rfl (lv_at hl 1 rfl) ?_
    refine dIald 2 X I (by decide) rfl ha d_D_shipped_187 ?_
    refine lv_aload_n hx hb d_D_shipped_188 rfl (lv_at hl 0 rfl) ?_
    refine dGetA 12 X I (by decide) (by decide) d_D_shipped_189 ?_
    refine lv_bipush (v := 8) hx hb d_D_shipped_192 (by decide) ?_
    refine dIald 12 X I (by decide) rfl (vi (by decide)) d_D_shipped_194 ?_
    refine lv_icmp_le (tgt := 214) hx hb d_D_shipped_195 (by decide) (fun c_195 => ?_) (fun c_195 => ?_)
    · rw [if_pos c_195] at hΦ
      exact blk_214 τ _ _ _ I (lv_sub hl [0, 1, 2] rfl) hΦ hZ
    · rw [if_neg c_195] at hΦ
      refine lv_aload_n hx hb d_D_shipped_198 rfl (lv_at hl 0 rfl) ?_
      refine lv_iload_n hx hb d_D_shipped_199 rfl (lv_at hl 1 rfl) ?_
      refine lv_aload_n hx hb d_D_shipped_200 rfl (lv_at hl 0 rfl) ?_
      refine dGetA 12 X I (by decide) (by decide) d_D_shipped_201 ?_
      refine lv_bipush (v := 8) hx hb d_D_shipped_204 (by decide) ?_
      refine dIald 12 X I (by decide) rfl (vi (by decide)) d_D_shipped_206 ?_
      refine goIf (wf := wD ca ad) I (rD X I [.int a, .int (am τ 12 (8 : Int32).toNatClampNeg)] (c_D_cutTo l D ca ad A τ a (am τ 12 (8 : Int32).toNatClampNeg) ha) k_D_80 rfl hl rfl ⟨Nat.le_of_ble_eq_true rfl, Nat.le_of_ble_eq_true rfl⟩ (Nat.le_of_ble_eq_true rfl) ⟨Nat.le_refl 0, Nat.le_refl 0⟩ d_D_shipped_207) (fun H locs I => ?_)
      refine lv_if_ne (tgt := 214) hx hb d_D_shipped_210 (by decide) (fun c_210 => ?_) (fun c_210 => ?_)
      · rw [if_neg c_210] at hΦ
        exact blk_214 (f_D_cutTo τ a (am τ 12 (8 : Int32).toNatClampNeg)).2 _ _ _ I (lv_sub hl [0, 1, 2] rfl) hΦ (hZ.of dct_k.1)
      · rw [if_pos c_210] at hΦ
        exact hret _ _ _ _ _ I hΦ d_D_shipped_213
  have blk_144 : ∀ (τ : Mt) (H : Heap) (locs : List Loc) (ls : Array Slot), In D A s.heap (wD ca ad τ) H locs → lv_has ls 4 [(0, .ref (ad 0)), (1, .int a), (2, .int i)] → Φ (f_D_shipped_144 τ a i) → (Dz τ) → W p l e (rmK 2) s m args below meth c H locs 0 0 Q (F0 m 144 ls []) := by
    intro τ H locs ls I hl hΦ hZ
    rw [f_D_shipped_144] at hΦ
    refine lv_aload_n hx hb d_D_shipped_144 rfl (lv_at hl 0 rfl) ?_
    refine dGetA 2 X I (by decide) (by decide) d_D_shipped_145 ?_
    refine lv_iload_n hx hb d_D_shipped_148 rfl (lv_at hl 1 rfl) ?_
    refine dIald 2 X I (by decide) rfl ha d_D_shipped_149 ?_
    refine lv_iload_n hx hb d_D_shipped_150 rfl (lv_at hl 2 rfl) ?_
    refine lv_icmp_ne (tgt := 182) hx hb d_D_shipped_151 (by decide) (fun c_151 => ?_) (fun c_151 => ?_)
    · rw [if_neg c_151] at hΦ
      exact blk_182 τ _ _ _ I (lv_sub hl [0, 1, 2] rfl) hΦ hZ
    · rw [if_pos c_151] at hΦ
      have hq : vp_in (am τ 2 a.toNatClampNeg) 64 := by rw [c_151]; exact hi
      refine lv_aload_n hx hb d_D_shipped_154 rfl (lv_at hl 0 rfl) ?_
      refine lv_iload_n hx hb d_D_shipped_155 rfl (lv_at hl 1 rfl) ?_
      refine lv_aload_n hx hb d_D_shipped_156 rfl (lv_at hl 0 rfl) ?_
      refine dGetA 12 X I (by decide) (by decide) d_D_shipped_157 ?_
      refine lv_iconst (v := 4) hx hb d_D_shipped_160 (by decide) ?_
      refine dIald 12 X I (by decide) rfl (vi (by decide)) d_D_shipped_161 ?_
      refine lv_aload_n hx hb d_D_shipped_162 rfl (lv_at hl 0 rfl) ?_
      refine dGetA 12 X I (by decide) (by decide) d_D_shipped_163 ?_
      refine lv_iconst (v := 5) hx hb d_D_shipped_166 (by decide) ?_
      refine dIald 12 X I (by decide) rfl (vi (by decide)) d_D_shipped_167 ?_
      refine lv_aload_n hx hb d_D_shipped_168 rfl (lv_at hl 0 rfl) ?_
      refine dGetA 12 X I (by decide) (by decide) d_D_shipped_169 ?_
      refine lv_bipush (v := 6) hx hb d_D_shipped_172 (by decide) ?_
      refine dIald 12 X I (by decide) rfl (vi (by decide)) d_D_shipped_174 ?_
      refine goIf (wf := wD ca ad) I (rD X I [.int a, .int (am τ 12 (4 : Int32).toNatClampNeg), .int (am τ 12 (5 : Int32).toNatClampNeg), .int (am τ 12 (6 : Int32).toNatClampNeg)] (c_D_putBehind l D ca ad A τ a (am τ 12 (4 : Int32).toNatClampNeg) (am τ 12 (5 : Int32).toNatClampNeg) (am τ 12 (6 : Int32).toNatClampNeg) ha hq) k_D_57 rfl hl rfl ⟨Nat.le_of_ble_eq_true rfl, Nat.le_of_ble_eq_true rfl⟩ (Nat.le_of_ble_eq_true rfl) ⟨Nat.le_refl 0, Nat.le_refl 0⟩ d_D_shipped_175) (fun H locs I => ?_)
      refine lv_if_ne (tgt := 182) hx hb d_D_shipped_178 (by decide) (fun c_178 => ?_) (fun c_178 => ?_)
      · rw [if_neg c_178] at hΦ
        exact blk_182 (f_D_putBehind τ a (am τ 12 (4 : Int32).toNatClampNeg) (am τ 12 (5 : Int32).toNatClampNeg) (am τ 12 (6 : Int32).toNatClampNeg)).2 _ _ _ I (lv_sub hl [0, 1, 2] rfl) hΦ (hZ.of dpb_k.1)
      · rw [if_pos c_178] at hΦ
        exact hret _ _ _ _ _ I hΦ d_D_shipped_181
  have blk_134 : ∀ (τ : Mt) (H : Heap) (locs : List Loc) (ls : Array Slot), In D A s.heap (wD ca ad τ) H locs → lv_has ls 4 [(0, .ref (ad 0)), (1, .int a), (2, .int i)] → Φ (f_D_shipped_134 τ a i) → (Dz τ) → W p l e (rmK 2) s m args below meth c H locs 0 0 Q (F0 m 134 ls []) := by
    intro τ H locs ls I hl hΦ hZ
    rw [f_D_shipped_134] at hΦ
    refine lv_aload_n hx hb d_D_shipped_134 rfl (lv_at hl 0 rfl) ?_
    refine lv_iload_n hx hb d_D_shipped_135 rfl (lv_at hl 1 rfl) ?_
    refine lv_iload_n hx hb d_D_shipped_136 rfl (lv_at hl 2 rfl) ?_
    refine goIf (wf := wD ca ad) I (rD X I [.int a, .int i] (c_D_cutTo l D ca ad A τ a i ha) k_D_80 rfl hl rfl ⟨Nat.le_of_ble_eq_true rfl, Nat.le_of_ble_eq_true rfl⟩ (Nat.le_of_ble_eq_true rfl) ⟨Nat.le_refl 0, Nat.le_refl 0⟩ d_D_shipped_137) (fun H locs I => ?_)
    refine lv_if_ne (tgt := 144) hx hb d_D_shipped_140 (by decide) (fun c_140 => ?_) (fun c_140 => ?_)
    · rw [if_neg c_140] at hΦ
      exact blk_144 (f_D_cutTo τ a i).2 _ _ _ I (lv_sub hl [0, 1, 2] rfl) hΦ (hZ.of dct_k.1)
    · rw [if_pos c_140] at hΦ
      exact hret _ _ _ _ _ I hΦ d_D_shipped_143
  have blk_71 : ∀ (τ : Mt) (H : Heap) (locs : List Loc) (ls : Array Slot), In D A s.heap (wD ca ad τ) H locs → lv_has ls 4 [(0, .ref (ad 0)), (1, .int a), (2, .int i)] → Φ (f_D_shipped_71 τ a i) → (Dz τ) → W p l e (rmK 2) s m args below meth c H locs 0 0 Q (F0 m 71 ls []) := by
    intro τ H locs ls I hl hΦ hZ
    rw [f_D_shipped_71] at hΦ
    have h3 := v64 ha hi
    refine lv_bipush (v := 64) hx hb d_D_shipped_71 (by decide) ?_
    refine lv_iload_n hx hb d_D_shipped_73 rfl (lv_at hl 1 rfl) ?_
    refine lv_imul hx hb d_D_shipped_74 ?_
    refine lv_iload_n hx hb d_D_shipped_75 rfl (lv_at hl 2 rfl) ?_
    refine lv_iadd hx hb d_D_shipped_76 ?_
    refine lv_istore_n (lv' := [(3, .int ((64 * a) + i)), (0, .ref (ad 0)), (1, .int a), (2, .int i)]) hx hb d_D_shipped_77 rfl hl (by decide) rfl (fun ls hl => ?_)
    refine lv_aload_n hx hb d_D_shipped_78 rfl (lv_at hl 1 rfl) ?_
    refine dGetA 2 X I (by decide) (by decide) d_D_shipped_79 ?_
    refine lv_iload_n hx hb d_D_shipped_82 rfl (lv_at hl 2 rfl) ?_
    refine dIald 2 X I (by decide) rfl ha d_D_shipped_83 ?_
    refine lv_iload_n hx hb d_D_shipped_84 rfl (lv_at hl 3 rfl) ?_
    refine lv_icmp_le (tgt := 144) hx hb d_D_shipped_85 (by decide) (fun c_85 => ?_) (fun c_85 => ?_)
    · rw [if_pos c_85] at hΦ
      exact blk_144 τ _ _ _ I (lv_sub hl [1, 2, 3] rfl) hΦ hZ
    · rw [if_neg c_85] at hΦ
      refine lv_aload_n hx hb d_D_shipped_88 rfl (lv_at hl 1 rfl) ?_
      refine dGetA 8 X I (by decide) (by decide) d_D_shipped_89 ?_
      refine lv_iload_n hx hb d_D_shipped_92 rfl (lv_at hl 0 rfl) ?_
      refine dIald 8 X I (by decide) rfl h3 d_D_shipped_93 ?_
      refine lv_aload_n hx hb d_D_shipped_94 rfl (lv_at hl 1 rfl) ?_
      refine dGetA 12 X I (by decide) (by decide) d_D_shipped_95 ?_
      refine lv_iconst (v := 4) hx hb d_D_shipped_98 (by decide) ?_
      refine dIald 12 X I (by decide) rfl (vi (by decide)) d_D_shipped_99 ?_
      refine lv_icmp_ne (tgt := 134) hx hb d_D_shipped_100 (by decide) (fun c_100 => ?_) (fun c_100 => ?_)
      · rw [if_neg c_100] at hΦ
        exact blk_134 τ _ _ _ I (lv_sub hl [1, 2, 3] rfl) hΦ hZ
      · rw [if_pos c_100] at hΦ
        refine lv_aload_n hx hb d_D_shipped_103 rfl (lv_at hl 1 rfl) ?_
        refine dGetA 9 X I (by decide) (by decide) d_D_shipped_104 ?_
        refine lv_iload_n hx hb d_D_shipped_107 rfl (lv_at hl 0 rfl) ?_
        refine dIald 9 X I (by decide) rfl h3 d_D_shipped_108 ?_
        refine lv_aload_n hx hb d_D_shipped_109 rfl (lv_at hl 1 rfl) ?_
        refine dGetA 12 X I (by decide) (by decide) d_D_shipped_110 ?_
        refine lv_iconst (v := 5) hx hb d_D_shipped_113 (by decide) ?_
        refine dIald 12 X I (by decide) rfl (vi (by decide)) d_D_shipped_114 ?_
        refine lv_icmp_ne (tgt := 134) hx hb d_D_shipped_115 (by decide) (fun c_115 => ?_) (fun c_115 => ?_)
        · rw [if_neg c_115] at hΦ
          exact blk_134 τ _ _ _ I (lv_sub hl [1, 2, 3] rfl) hΦ hZ
        · rw [if_pos c_115] at hΦ
          refine lv_aload_n hx hb d_D_shipped_118 rfl (lv_at hl 1 rfl) ?_
          refine dGetA 10 X I (by decide) (by decide) d_D_shipped_119 ?_
          refine lv_iload_n hx hb d_D_shipped_122 rfl (lv_at hl 0 rfl) ?_
          refine dIald 10 X I (by decide) rfl h3 d_D_shipped_123 ?_
          refine lv_aload_n hx hb d_D_shipped_124 rfl (lv_at hl 1 rfl) ?_
          refine dGetA 12 X I (by decide) (by decide) d_D_shipped_125 ?_
          refine lv_bipush (v := 6) hx hb d_D_shipped_128 (by decide) ?_
          refine dIald 12 X I (by decide) rfl (vi (by decide)) d_D_shipped_130 ?_
          refine lv_icmp_eq (tgt := 144) hx hb d_D_shipped_131 (by decide) (fun c_131 => ?_) (fun c_131 => ?_)
          · rw [if_pos c_131] at hΦ
            exact blk_144 τ _ _ _ I (lv_sub hl [1, 2, 3] rfl) hΦ hZ
          · rw [if_neg c_131] at hΦ
            exact blk_134 τ _ _ _ I (lv_sub hl [1, 2, 3] rfl) hΦ hZ
  rw [f_D_shipped] at hΦ
  refine lv_aload_n hx hb d_D_shipped_0 rfl (lv_at hl 0 rfl) ?_
  refine dGetA 2 X I (by decide) (by decide) d_D_shipped_1 ?_
  refine lv_iload_n hx hb d_D_shipped_4 rfl (lv_at hl 1 rfl) ?_
  refine dIald 2 X I (by decide) rfl ha d_D_shipped_5 ?_
  refine lv_iload_n hx hb d_D_shipped_6 rfl (lv_at hl 2 rfl) ?_
  refine lv_icmp_ge (tgt := 23) hx hb d_D_shipped_7 (by decide) (fun c_7 => ?_) (fun c_7 => ?_)
  · rw [if_pos c_7] at hΦ
    refine lv_iload_n hx hb d_D_shipped_23 rfl (lv_at hl 2 rfl) ?_
    refine lv_if_le (tgt := 71) hx hb d_D_shipped_24 (by decide) (fun c_24 => ?_) (fun c_24 => ?_)
    · rw [if_pos c_24] at hΦ
      exact blk_71 τ _ _ _ I (lv_sub hl [0, 1, 2] rfl) hΦ hZ
    · rw [if_neg c_24] at hΦ
      have hq1 : vp_in (64 * a + i - 1) 128 := by
        have h0 := c_24
        rw [n_le, n_0] at h0
        have h1 := iv ha
        have h2 := iv hi
        have e2 := i64 ha ⟨h2.1, by omega⟩
        exact vi (by rw [n_sub (by rw [n_1, e2]; omega) (by rw [n_1, e2]; omega), n_1, e2]; omega)
      refine lv_aload_n hx hb d_D_shipped_27 rfl (lv_at hl 0 rfl) ?_
      refine dGetA 8 X I (by decide) (by decide) d_D_shipped_28 ?_
      refine lv_bipush (v := 64) hx hb d_D_shipped_31 (by decide) ?_
      refine lv_iload_n hx hb d_D_shipped_33 rfl (lv_at hl 1 rfl) ?_
      refine lv_imul hx hb d_D_shipped_34 ?_
      refine lv_iload_n hx hb d_D_shipped_35 rfl (lv_at hl 2 rfl) ?_
      refine lv_iadd hx hb d_D_shipped_36 ?_
      refine lv_iconst (v := 1) hx hb d_D_shipped_37 (by decide) ?_
      refine lv_isub hx hb d_D_shipped_38 ?_
      refine dIald 8 X I (by decide) rfl hq1 d_D_shipped_39 ?_
      refine lv_aload_n hx hb d_D_shipped_40 rfl (lv_at hl 0 rfl) ?_
      refine dGetA 12 X I (by decide) (by decide) d_D_shipped_41 ?_
      refine lv_bipush (v := 7) hx hb d_D_shipped_44 (by decide) ?_
      refine dIald 12 X I (by decide) rfl (vi (by decide)) d_D_shipped_46 ?_
      refine lv_icmp_eq (tgt := 71) hx hb d_D_shipped_47 (by decide) (fun c_47 => ?_) (fun c_47 => ?_)
      · rw [if_pos c_47] at hΦ
        exact blk_71 τ _ _ _ I (lv_sub hl [0, 1, 2] rfl) hΦ hZ
      · rw [if_neg c_47] at hΦ
        refine lv_aload_n hx hb d_D_shipped_50 rfl (lv_at hl 0 rfl) ?_
        refine lv_iload_n hx hb d_D_shipped_51 rfl (lv_at hl 1 rfl) ?_
        refine lv_iload_n hx hb d_D_shipped_52 rfl (lv_at hl 2 rfl) ?_
        refine lv_iconst (v := 1) hx hb d_D_shipped_53 (by decide) ?_
        refine lv_isub hx hb d_D_shipped_54 ?_
        refine goIf (wf := wD ca ad) I (rD X I [.int a, .int (i - 1)] (c_D_cutTo l D ca ad A τ a (i - 1) ha) k_D_80 rfl hl rfl ⟨Nat.le_of_ble_eq_true rfl, Nat.le_of_ble_eq_true rfl⟩ (Nat.le_of_ble_eq_true rfl) ⟨Nat.le_refl 0, Nat.le_refl 0⟩ d_D_shipped_55) (fun H locs I => ?_)
        refine lv_if_eq (tgt := 70) hx hb d_D_shipped_58 (by decide) (fun c_58 => ?_) (fun c_58 => ?_)
        · rw [if_pos c_58] at hΦ
          exact hret _ _ _ _ _ I hΦ d_D_shipped_70
        · rw [if_neg c_58] at hΦ
          refine lv_aload_n hx hb d_D_shipped_61 rfl (lv_at hl 0 rfl) ?_
          refine lv_iload_n hx hb d_D_shipped_62 rfl (lv_at hl 1 rfl) ?_
          refine lv_iconst (v := 3) hx hb d_D_shipped_63 (by decide) ?_
          refine lv_iload_n hx hb d_D_shipped_64 rfl (lv_at hl 2 rfl) ?_
          refine lv_iconst (v := 1) hx hb d_D_shipped_65 (by decide) ?_
          refine lv_isub hx hb d_D_shipped_66 ?_
          refine goVf (wf := wD ca ad) I (rD X I [.int a, .int 3, .int (i - 1)] (c_D_send l D ca ad A (f_D_cutTo τ a (i - 1)).2 a 3 (i - 1) (hZ.of dct_k.1) ha (fun h => absurd h (by decide))) k_D_61 rfl hl rfl ⟨Nat.le_of_ble_eq_true rfl, Nat.le_of_ble_eq_true rfl⟩ (Nat.le_of_ble_eq_true rfl) ⟨Nat.le_refl 0, Nat.le_refl 0⟩ d_D_shipped_67) (fun H locs I => ?_)
          exact hret _ _ _ _ _ I hΦ d_D_shipped_70
  · rw [if_neg c_7] at hΦ
    refine lv_aload_n hx hb d_D_shipped_10 rfl (lv_at hl 0 rfl) ?_
    refine lv_iload_n hx hb d_D_shipped_11 rfl (lv_at hl 1 rfl) ?_
    refine lv_iconst (v := 3) hx hb d_D_shipped_12 (by decide) ?_
    refine lv_aload_n hx hb d_D_shipped_13 rfl (lv_at hl 0 rfl) ?_
    refine dGetA 2 X I (by decide) (by decide) d_D_shipped_14 ?_
    refine lv_iload_n hx hb d_D_shipped_17 rfl (lv_at hl 1 rfl) ?_
    refine dIald 2 X I (by decide) rfl ha d_D_shipped_18 ?_
    refine goVf (wf := wD ca ad) I (rD X I [.int a, .int 3, .int (am τ 2 a.toNatClampNeg)] (c_D_send l D ca ad A τ a 3 (am τ 2 a.toNatClampNeg) hZ ha (fun h => absurd h (by decide))) k_D_61 rfl hl rfl ⟨Nat.le_of_ble_eq_true rfl, Nat.le_of_ble_eq_true rfl⟩ (Nat.le_of_ble_eq_true rfl) ⟨Nat.le_refl 0, Nat.le_refl 0⟩ d_D_shipped_19) (fun H locs I => ?_)
    exact hret _ _ _ _ _ I hΦ d_D_shipped_22
def f_D_put (τ : Mt) (a : Int32) (b : Int32) (x : Int32) : Int32 × Mt := (if (f_D_isNode τ a) = 0 then ((-1), τ) else (if b < 0 then ((-1), τ) else (if b ≤ 15 then (if (am τ 3 a.toNatClampNeg) = 0 then (if (am τ 4 a.toNatClampNeg) = 0 then ((-2), τ) else (if (am τ 2 a.toNatClampNeg) = 64 then ((-3), τ) else (if (mz τ) = 16 then ((-3), τ) else (if (f_D_putBehind τ a (am τ 1 a.toNatClampNeg) b x).1 = 0 then ((-4), (f_D_putBehind τ a (am τ 1 a.toNatClampNeg) b x).2) else (((am (f_D_send (f_D_putBehind τ a (am τ 1 a.toNatClampNeg) b x).2 a 1 ((am (f_D_putBehind τ a (am τ 1 a.toNatClampNeg) b x).2 2 a.toNatClampNeg) - 1)) 2 a.toNatClampNeg) - 1), (f_D_send (f_D_putBehind τ a (am τ 1 a.toNatClampNeg) b x).2 a 1 ((am (f_D_putBehind τ a (am τ 1 a.toNatClampNeg) b x).2 2 a.toNatClampNeg) - 1))))))) else ((-4), τ)) else ((-1), τ))))
set_option maxHeartbeats 4000000 in
set_option maxRecDepth 100000 in
theorem c_D_put (l : Launch) (D : va_G) (ca : Nat → ClassId) (ad : Nat → Nat) (A : Nat → Prop) (τ : Mt) (a : Int32) (b : Int32) (x : Int32) (hB : Ds τ) : Met l y_D_put (Cond.code y_D_put b_D_put 4 (some .int) :: BASE) (rmK 2) (va_Pc [.ref (ad 0), .int a, .int b, .int x] (Pre D (tysD ca) A (wD ca ad τ))) (va_Qi (fun r u => (r, u) = f_D_put τ a b x) (Pst D A (wD ca ad)) A) 0 0 A := by
  refine enterIx (by decide) (Nat.le_of_ble_eq_true rfl) ?_
  intro Φ hΦ p e s m args below meth c Q X hret I ls hl
  have hx := X.x
  have hb := X.b
  have hl : lv_has ls 4 [(0, .ref (ad 0)), (1, .int a), (2, .int b), (3, .int x)] := hl
  rw [f_D_put] at hΦ
  refine lv_iload_n hx hb d_D_put_0 rfl (lv_at hl 1 rfl) ?_
  refine goIp (wf := wD ca ad) (w := τ) I (runS X I [.int a] (c_D_isNode l D ca ad A τ a) k_D_54 rfl hl rfl ⟨Nat.le_of_ble_eq_true rfl, Nat.le_of_ble_eq_true rfl⟩ (Nat.le_of_ble_eq_true rfl) ⟨Nat.le_refl 0, Nat.le_refl 0⟩ d_D_put_1) (fun H locs I => ?_)
  refine lv_if_eq (tgt := 17) hx hb d_D_put_4 (by decide) (fun c_4 => ?_) (fun c_4 => ?_)
  · rw [if_pos c_4] at hΦ
    refine lv_iconst (v := (-1)) hx hb d_D_put_17 (by decide) ?_
    exact hret _ _ _ _ _ _ I hΦ d_D_put_18
  · rw [if_neg c_4] at hΦ
    have ha : vp_in a 2 := isD_in c_4
    refine lv_iload_n hx hb d_D_put_7 rfl (lv_at hl 2 rfl) ?_
    refine lv_if_lt (tgt := 17) hx hb d_D_put_8 (by decide) (fun c_8 => ?_) (fun c_8 => ?_)
    · rw [if_pos c_8] at hΦ
      refine lv_iconst (v := (-1)) hx hb d_D_put_17 (by decide) ?_
      exact hret _ _ _ _ _ _ I hΦ d_D_put_18
    · rw [if_neg c_8] at hΦ
      refine lv_iload_n hx hb d_D_put_11 rfl (lv_at hl 2 rfl) ?_
      refine lv_bipush (v := 15) hx hb d_D_put_12 (by decide) ?_
      refine lv_icmp_le (tgt := 19) hx hb d_D_put_14 (by decide) (fun c_14 => ?_) (fun c_14 => ?_)
      · rw [if_pos c_14] at hΦ
        refine lv_aload_n hx hb d_D_put_19 rfl (lv_at hl 0 rfl) ?_
        refine dGetA 3 X I (by decide) (by decide) d_D_put_20 ?_
        refine lv_iload_n hx hb d_D_put_23 rfl (lv_at hl 1 rfl) ?_
        refine dZald 3 X I (by decide) ha d_D_put_24 ?_
        refine lv_if_eq (tgt := 31) hx hb d_D_put_25 (by decide) (fun c_25 => ?_) (fun c_25 => ?_)
        · rw [if_pos c_25] at hΦ
          refine lv_aload_n hx hb d_D_put_31 rfl (lv_at hl 0 rfl) ?_
          refine dGetA 4 X I (by decide) (by decide) d_D_put_32 ?_
          refine lv_iload_n hx hb d_D_put_35 rfl (lv_at hl 1 rfl) ?_
          refine dZald 4 X I (by decide) ha d_D_put_36 ?_
          refine lv_if_ne (tgt := 43) hx hb d_D_put_37 (by decide) (fun c_37 => ?_) (fun c_37 => ?_)
          · rw [if_neg c_37] at hΦ
            refine lv_aload_n hx hb d_D_put_43 rfl (lv_at hl 0 rfl) ?_
            refine dGetA 2 X I (by decide) (by decide) d_D_put_44 ?_
            refine lv_iload_n hx hb d_D_put_47 rfl (lv_at hl 1 rfl) ?_
            refine dIald 2 X I (by decide) rfl ha d_D_put_48 ?_
            refine lv_bipush (v := 64) hx hb d_D_put_49 (by decide) ?_
            refine lv_icmp_eq (tgt := 63) hx hb d_D_put_51 (by decide) (fun c_51 => ?_) (fun c_51 => ?_)
            · rw [if_pos c_51] at hΦ
              refine lv_bipush (v := (-3)) hx hb d_D_put_63 (by decide) ?_
              exact hret _ _ _ _ _ _ I hΦ d_D_put_65
            · rw [if_neg c_51] at hΦ
              refine lv_aload_n hx hb d_D_put_54 rfl (lv_at hl 0 rfl) ?_
              refine dGetZ X I d_D_put_55 ?_
              refine lv_bipush (v := 16) hx hb d_D_put_58 (by decide) ?_
              refine lv_icmp_ne (tgt := 66) hx hb d_D_put_60 (by decide) (fun c_60 => ?_) (fun c_60 => ?_)
              · rw [if_neg c_60] at hΦ
                have hlen : vp_in (am τ 2 a.toNatClampNeg) 64 := by
                  have h1 := hB.2 _ (vlt ha)
                  have h2 := c_51
                  rw [n_eq, n_64] at h2
                  exact vi ⟨h1.1, by omega⟩
                refine lv_aload_n hx hb d_D_put_66 rfl (lv_at hl 0 rfl) ?_
                refine lv_iload_n hx hb d_D_put_67 rfl (lv_at hl 1 rfl) ?_
                refine lv_aload_n hx hb d_D_put_68 rfl (lv_at hl 0 rfl) ?_
                refine dGetA 1 X I (by decide) (by decide) d_D_put_69 ?_
                refine lv_iload_n hx hb d_D_put_72 rfl (lv_at hl 1 rfl) ?_
                refine dIald 1 X I (by decide) rfl ha d_D_put_73 ?_
                refine lv_iload_n hx hb d_D_put_74 rfl (lv_at hl 2 rfl) ?_
                refine lv_iload_n hx hb d_D_put_75 rfl (lv_at hl 3 rfl) ?_
                refine goIf (wf := wD ca ad) I (rD X I [.int a, .int (am τ 1 a.toNatClampNeg), .int b, .int x] (c_D_putBehind l D ca ad A τ a (am τ 1 a.toNatClampNeg) b x ha hlen) k_D_57 rfl hl rfl ⟨Nat.le_of_ble_eq_true rfl, Nat.le_of_ble_eq_true rfl⟩ (Nat.le_of_ble_eq_true rfl) ⟨Nat.le_refl 0, Nat.le_refl 0⟩ d_D_put_76) (fun H locs I => ?_)
                refine lv_if_ne (tgt := 85) hx hb d_D_put_79 (by decide) (fun c_79 => ?_) (fun c_79 => ?_)
                · rw [if_neg c_79] at hΦ
                  have hl1 : vp_in ((am (f_D_putBehind τ a (am τ 1 a.toNatClampNeg) b x).2 2 a.toNatClampNeg) - 1) 64 := by
                    rw [dpb_len c_79]
                    have h := iv hlen
                    have e1 : (am τ 2 a.toNatClampNeg + 1).toInt = (am τ 2 a.toNatClampNeg).toInt + 1 := by rw [n_add (by rw [n_1]; omega) (by rw [n_1]; omega), n_1]
                    exact vi (by rw [n_sub (by rw [n_1, e1]; omega) (by rw [n_1, e1]; omega), n_1, e1]; omega)
                  refine lv_aload_n hx hb d_D_put_85 rfl (lv_at hl 0 rfl) ?_
                  refine lv_iload_n hx hb d_D_put_86 rfl (lv_at hl 1 rfl) ?_
                  refine lv_iconst (v := 1) hx hb d_D_put_87 (by decide) ?_
                  refine lv_aload_n hx hb d_D_put_88 rfl (lv_at hl 0 rfl) ?_
                  refine dGetA 2 X I (by decide) (by decide) d_D_put_89 ?_
                  refine lv_iload_n hx hb d_D_put_92 rfl (lv_at hl 1 rfl) ?_
                  refine dIald 2 X I (by decide) rfl ha d_D_put_93 ?_
                  refine lv_iconst (v := 1) hx hb d_D_put_94 (by decide) ?_
                  refine lv_isub hx hb d_D_put_95 ?_
                  refine goVf (wf := wD ca ad) I (rD X I [.int a, .int 1, .int ((am (f_D_putBehind τ a (am τ 1 a.toNatClampNeg) b x).2 2 a.toNatClampNeg) - 1)] (c_D_send l D ca ad A (f_D_putBehind τ a (am τ 1 a.toNatClampNeg) b x).2 a 1 ((am (f_D_putBehind τ a (am τ 1 a.toNatClampNeg) b x).2 2 a.toNatClampNeg) - 1) (hB.1.of dpb_k.1) ha (fun _ => hl1)) k_D_61 rfl hl rfl ⟨Nat.le_of_ble_eq_true rfl, Nat.le_of_ble_eq_true rfl⟩ (Nat.le_of_ble_eq_true rfl) ⟨Nat.le_refl 0, Nat.le_refl 0⟩ d_D_put_96) (fun H locs I => ?_)
                  refine lv_aload_n hx hb d_D_put_99 rfl (lv_at hl 0 rfl) ?_
                  refine dGetA 2 X I (by decide) (by decide) d_D_put_100 ?_
                  refine lv_iload_n hx hb d_D_put_103 rfl (lv_at hl 1 rfl) ?_
                  refine dIald 2 X I (by decide) rfl ha d_D_put_104 ?_
                  refine lv_iconst (v := 1) hx hb d_D_put_105 (by decide) ?_
                  refine lv_isub hx hb d_D_put_106 ?_
                  exact hret _ _ _ _ _ _ I hΦ d_D_put_107
                · rw [if_pos c_79] at hΦ
                  refine lv_bipush (v := (-4)) hx hb d_D_put_82 (by decide) ?_
                  exact hret _ _ _ _ _ _ I hΦ d_D_put_84
              · rw [if_pos c_60] at hΦ
                refine lv_bipush (v := (-3)) hx hb d_D_put_63 (by decide) ?_
                exact hret _ _ _ _ _ _ I hΦ d_D_put_65
          · rw [if_pos c_37] at hΦ
            refine lv_bipush (v := (-2)) hx hb d_D_put_40 (by decide) ?_
            exact hret _ _ _ _ _ _ I hΦ d_D_put_42
        · rw [if_neg c_25] at hΦ
          refine lv_bipush (v := (-4)) hx hb d_D_put_28 (by decide) ?_
          exact hret _ _ _ _ _ _ I hΦ d_D_put_30
      · rw [if_neg c_14] at hΦ
        refine lv_iconst (v := (-1)) hx hb d_D_put_17 (by decide) ?_
        exact hret _ _ _ _ _ _ I hΦ d_D_put_18
def f_D_get_24 : Nat → Mt → Int32 → Int32 → Int32 → Int32 → Int32
  | 0, τ, _, _, _, _ => 0
  | fuel + 1, τ, a, b, v3, v4 => (if (am τ 2 a.toNatClampNeg) ≤ v4 then v3 else (if (am τ 9 ((64 * a) + v4).toNatClampNeg) = b then (f_D_get_24 fuel τ a b (am τ 10 ((64 * a) + v4).toNatClampNeg) (v4 + 1)) else (f_D_get_24 fuel τ a b v3 (v4 + 1))))
def f_D_get (τ : Mt) (a : Int32) (b : Int32) : Int32 := (if (f_D_isNode τ a) = 0 then (-1) else (if b < 0 then (-1) else (if b ≤ 15 then (f_D_get_24 66 τ a b 0 0) else (-1))))
set_option maxHeartbeats 4000000 in
set_option maxRecDepth 100000 in
theorem c_D_get (l : Launch) (D : va_G) (ca : Nat → ClassId) (ad : Nat → Nat) (A : Nat → Prop) (τ : Mt) (a : Int32) (b : Int32) (hB : Ds τ) : Met l y_D_get (Cond.code y_D_get b_D_get 5 (some .int) :: BASE) (rmK 1) (va_Pc [.ref (ad 0), .int a, .int b] (Pre D (tysD ca) A (wD ca ad τ))) (va_Qi (fun r u => (r, u) = (f_D_get τ a b, τ)) (Pst D A (wD ca ad)) A) 0 0 A := by
  refine enterIx (by decide) (Nat.le_of_ble_eq_true rfl) ?_
  intro Φ hΦ p e s m args below meth c Q X hret I ls hl
  have hx := X.x
  have hb := X.b
  have hl : lv_has ls 5 [(0, .ref (ad 0)), (1, .int a), (2, .int b)] := hl
  have blk_24 : ∀ (fuel : Nat) (τ : Mt) (v3 : Int32) (v4 : Int32) (H : Heap) (locs : List Loc) (ls : Array Slot), In D A s.heap (wD ca ad τ) H locs → lv_has ls 5 [(0, .ref (ad 0)), (1, .int a), (2, .int b), (3, .int v3), (4, .int v4)] → Φ (f_D_get_24 fuel τ a b v3 v4, τ) → (Ds τ) → (vp_in a 2) → (0 ≤ v4.toInt ∧ v4.toInt ≤ 64) → (64 - v4.toInt < fuel) → W p l e (rmK 1) s m args below meth c H locs 0 0 Q (F0 m 24 ls []) := by
    intro fuel
    induction fuel with
    | zero => intro τ v3 v4 H locs ls I hl hΦ hB ha h4 hf; exact absurd hf (by omega)
    | succ fuel ih =>
      intro τ v3 v4 H locs ls I hl hΦ hB ha h4 hf
      rw [f_D_get_24] at hΦ
      refine lv_iload hx hb d_D_get_24 (lv_at hl 4 rfl) ?_
      refine lv_aload_n hx hb d_D_get_26 rfl (lv_at hl 0 rfl) ?_
      refine dGetA 2 X I (by decide) (by decide) d_D_get_27 ?_
      refine lv_iload_n hx hb d_D_get_30 rfl (lv_at hl 1 rfl) ?_
      refine dIald 2 X I (by decide) rfl ha d_D_get_31 ?_
      refine lv_icmp_ge (tgt := 74) hx hb d_D_get_32 (by decide) (fun c_32 => ?_) (fun c_32 => ?_)
      · rw [if_pos c_32] at hΦ
        refine lv_iload_n hx hb d_D_get_74 rfl (lv_at hl 3 rfl) ?_
        exact hret _ _ _ _ _ _ I hΦ d_D_get_75
      · rw [if_neg c_32] at hΦ
        have hlt : v4.toInt < 64 := by
          have h1 := c_32
          have h2 := hB.2 _ (vlt ha)
          rw [n_le] at h1
          omega
        have hq := v64 ha (vi ⟨h4.1, hlt⟩ : vp_in v4 64)
        have e1 : (v4 + 1).toInt = v4.toInt + 1 := by rw [n_add (by rw [n_1]; omega) (by rw [n_1]; omega), n_1]
        refine lv_aload_n hx hb d_D_get_35 rfl (lv_at hl 0 rfl) ?_
        refine dGetA 9 X I (by decide) (by decide) d_D_get_36 ?_
        refine lv_bipush (v := 64) hx hb d_D_get_39 (by decide) ?_
        refine lv_iload_n hx hb d_D_get_41 rfl (lv_at hl 1 rfl) ?_
        refine lv_imul hx hb d_D_get_42 ?_
        refine lv_iload hx hb d_D_get_43 (lv_at hl 4 rfl) ?_
        refine lv_iadd hx hb d_D_get_45 ?_
        refine dIald 9 X I (by decide) rfl hq d_D_get_46 ?_
        refine lv_iload_n hx hb d_D_get_47 rfl (lv_at hl 2 rfl) ?_
        refine lv_icmp_ne (tgt := 66) hx hb d_D_get_48 (by decide) (fun c_48 => ?_) (fun c_48 => ?_)
        · rw [if_neg c_48] at hΦ
          refine lv_iload_n hx hb d_D_get_66 rfl (lv_at hl 3 rfl) ?_
          refine lv_istore_n (lv' := [(3, .int v3), (0, .ref (ad 0)), (1, .int a), (2, .int b), (4, .int v4)]) hx hb d_D_get_67 rfl hl (by decide) rfl (fun ls hl => ?_)
          refine lv_iinc (v := (v4 + 1)) (lv' := [(4, .int (v4 + 1)), (3, .int v3), (0, .ref (ad 0)), (1, .int a), (2, .int b)]) hx hb d_D_get_68 hl (k := 4) rfl rfl (by decide) rfl (fun ls hl => ?_)
          refine lv_goto (tgt := 24) hx hb d_D_get_71 (by decide) ?_
          exact ih τ v3 (v4 + 1) _ _ _ I (lv_sub hl [2, 3, 4, 1, 0] rfl) hΦ hB ha ⟨by rw [e1]; omega, by rw [e1]; omega⟩ (by rw [e1]; omega)
        · rw [if_pos c_48] at hΦ
          refine lv_aload_n hx hb d_D_get_51 rfl (lv_at hl 0 rfl) ?_
          refine dGetA 10 X I (by decide) (by decide) d_D_get_52 ?_
          refine lv_bipush (v := 64) hx hb d_D_get_55 (by decide) ?_
          refine lv_iload_n hx hb d_D_get_57 rfl (lv_at hl 1 rfl) ?_
          refine lv_imul hx hb d_D_get_58 ?_
          refine lv_iload hx hb d_D_get_59 (lv_at hl 4 rfl) ?_
          refine lv_iadd hx hb d_D_get_61 ?_
          refine dIald 10 X I (by decide) rfl hq d_D_get_62 ?_
          refine lv_goto (tgt := 67) hx hb d_D_get_63 (by decide) ?_
          refine lv_istore_n (lv' := [(3, .int (am τ 10 ((64 * a) + v4).toNatClampNeg)), (0, .ref (ad 0)), (1, .int a), (2, .int b), (4, .int v4)]) hx hb d_D_get_67 rfl hl (by decide) rfl (fun ls hl => ?_)
          refine lv_iinc (v := (v4 + 1)) (lv' := [(4, .int (v4 + 1)), (3, .int (am τ 10 ((64 * a) + v4).toNatClampNeg)), (0, .ref (ad 0)), (1, .int a), (2, .int b)]) hx hb d_D_get_68 hl (k := 4) rfl rfl (by decide) rfl (fun ls hl => ?_)
          refine lv_goto (tgt := 24) hx hb d_D_get_71 (by decide) ?_
          exact ih τ (am τ 10 ((64 * a) + v4).toNatClampNeg) (v4 + 1) _ _ _ I (lv_sub hl [2, 3, 4, 1, 0] rfl) hΦ hB ha ⟨by rw [e1]; omega, by rw [e1]; omega⟩ (by rw [e1]; omega)
  rw [f_D_get] at hΦ
  refine lv_iload_n hx hb d_D_get_0 rfl (lv_at hl 1 rfl) ?_
  refine goIp (wf := wD ca ad) (w := τ) I (runS X I [.int a] (c_D_isNode l D ca ad A τ a) k_D_54 rfl hl rfl ⟨Nat.le_of_ble_eq_true rfl, Nat.le_of_ble_eq_true rfl⟩ (Nat.le_of_ble_eq_true rfl) ⟨Nat.le_refl 0, Nat.le_refl 0⟩ d_D_get_1) (fun H locs I => ?_)
  refine lv_if_eq (tgt := 17) hx hb d_D_get_4 (by decide) (fun c_4 => ?_) (fun c_4 => ?_)
  · rw [if_pos c_4] at hΦ
    refine lv_iconst (v := (-1)) hx hb d_D_get_17 (by decide) ?_
    exact hret _ _ _ _ _ _ I hΦ d_D_get_18
  · rw [if_neg c_4] at hΦ
    have ha : vp_in a 2 := isD_in c_4
    refine lv_iload_n hx hb d_D_get_7 rfl (lv_at hl 2 rfl) ?_
    refine lv_if_lt (tgt := 17) hx hb d_D_get_8 (by decide) (fun c_8 => ?_) (fun c_8 => ?_)
    · rw [if_pos c_8] at hΦ
      refine lv_iconst (v := (-1)) hx hb d_D_get_17 (by decide) ?_
      exact hret _ _ _ _ _ _ I hΦ d_D_get_18
    · rw [if_neg c_8] at hΦ
      refine lv_iload_n hx hb d_D_get_11 rfl (lv_at hl 2 rfl) ?_
      refine lv_bipush (v := 15) hx hb d_D_get_12 (by decide) ?_
      refine lv_icmp_le (tgt := 19) hx hb d_D_get_14 (by decide) (fun c_14 => ?_) (fun c_14 => ?_)
      · rw [if_pos c_14] at hΦ
        refine lv_iconst (v := 0) hx hb d_D_get_19 (by decide) ?_
        refine lv_istore_n (lv' := [(3, .int 0), (0, .ref (ad 0)), (1, .int a), (2, .int b)]) hx hb d_D_get_20 rfl hl (by decide) rfl (fun ls hl => ?_)
        refine lv_iconst (v := 0) hx hb d_D_get_21 (by decide) ?_
        refine lv_istore (lv' := [(4, .int 0), (3, .int 0), (0, .ref (ad 0)), (1, .int a), (2, .int b)]) hx hb d_D_get_22 hl (by decide) rfl (fun ls hl => ?_)
        exact blk_24 66 τ 0 0 _ _ _ I (lv_sub hl [2, 3, 4, 1, 0] rfl) hΦ hB ha (by decide) (by decide)
      · rw [if_neg c_14] at hΦ
        refine lv_iconst (v := (-1)) hx hb d_D_get_17 (by decide) ?_
        exact hret _ _ _ _ _ _ I hΦ d_D_get_18
theorem rem_15k (fuel : Nat) : ∀ (τ : Mt) (v2 : Int32), mz (f_D_remove_15 fuel τ v2) = mz τ ∧ ∀ j, j ≠ 11 → am (f_D_remove_15 fuel τ v2) j = am τ j := by
  induction fuel with
  | zero => intro τ v2; exact ⟨rfl, fun _ _ => rfl⟩
  | succ fuel ih =>
    intro τ v2
    rw [f_D_remove_15]
    split
    · exact ⟨rfl, fun _ _ => rfl⟩
    · refine ⟨(ih _ _).1, fun j hj => ?_⟩
      rw [(ih _ _).2 j hj, am_o hj]
theorem rem_k {τ : Mt} {a : Int32} : mz (f_D_remove τ a) = mz τ - 1 ∧ ∀ j, j ≠ 11 → am (f_D_remove τ a) j = am τ j := by
  rw [f_D_remove]
  exact ⟨(rem_15k _ _ _).1, (rem_15k _ _ _).2⟩
theorem rem_Dz {τ : Mt} {a : Int32} (h : 1 ≤ (mz τ).toInt ∧ (mz τ).toInt ≤ 16) : Dz (f_D_remove τ a) := by
  unfold Dz
  rw [rem_k.1, n_sub (by rw [n_1]; omega) (by rw [n_1]; omega), n_1]
  omega
def f_D_pump_354 (τ : Mt) : Int32 × Mt := ((am τ 12 (0 : Int32).toNatClampNeg), τ)
def f_D_pump_351 (τ : Mt) (a : Int32) (v : Int32) : Int32 × Mt := (f_D_pump_354 (f_D_shipIfThere τ a v))
def f_D_pump_289 (τ : Mt) (a : Int32) : Int32 × Mt := (if (am τ 12 (0 : Int32).toNatClampNeg) = 3 then (if (am τ 4 a.toNatClampNeg) = 0 then (f_D_pump_354 τ) else (if (am τ 12 (3 : Int32).toNatClampNeg) < 0 then (f_D_pump_354 τ) else (if (am τ 2 a.toNatClampNeg) ≤ (am τ 12 (3 : Int32).toNatClampNeg) then (f_D_pump_351 τ a ((am τ 2 a.toNatClampNeg) - 1)) else (f_D_pump_351 τ a (am τ 12 (3 : Int32).toNatClampNeg))))) else (f_D_pump_354 τ))
def f_D_pump_218 (τ : Mt) (a : Int32) : Int32 × Mt := (if (am τ 12 (0 : Int32).toNatClampNeg) = 2 then (if (am τ 4 a.toNatClampNeg) = 0 then (f_D_pump_289 τ a) else (if (am τ 12 (3 : Int32).toNatClampNeg) ≤ (am τ 5 a.toNatClampNeg) then (f_D_pump_354 (f_D_shipIfThere (da τ 5 a.toNatClampNeg (am τ 5 a.toNatClampNeg)) a ((am (da τ 5 a.toNatClampNeg (am τ 5 a.toNatClampNeg)) 12 (3 : Int32).toNatClampNeg) + 1))) else (f_D_pump_354 (f_D_shipIfThere (da τ 5 a.toNatClampNeg (am τ 12 (3 : Int32).toNatClampNeg)) a ((am (da τ 5 a.toNatClampNeg (am τ 12 (3 : Int32).toNatClampNeg)) 12 (3 : Int32).toNatClampNeg) + 1))))) else (f_D_pump_289 τ a))
def f_D_pump_172 (τ : Mt) (a : Int32) (v : Int32) (w : Int32) : Int32 × Mt := (if w = v then ((20 + (am τ 12 (0 : Int32).toNatClampNeg)), τ) else (if (am τ 12 (0 : Int32).toNatClampNeg) = 1 then (if (am τ 4 a.toNatClampNeg) = 0 then (f_D_pump_354 (f_D_shipped τ a (am τ 12 (3 : Int32).toNatClampNeg))) else (f_D_pump_218 τ a)) else (f_D_pump_218 τ a)))
def f_D_pump_151 (τ : Mt) (a : Int32) : Int32 × Mt := (if (am τ 12 (0 : Int32).toNatClampNeg) = 1 then (f_D_pump_172 τ a 1 (am τ 4 a.toNatClampNeg)) else (f_D_pump_172 τ a 0 (am τ 4 a.toNatClampNeg)))
def f_D_pump_98 (τ : Mt) : Int32 × Mt := ((20 + (am τ 12 (0 : Int32).toNatClampNeg)), τ)
def f_D_pump_11 : Nat → Mt → Int32 → Int32 × Mt
  | 0, τ, _ => (0, τ)
  | fuel + 1, τ, v1 => (if 9 ≤ v1 then (if (am (f_D_remove τ 0) 3 (am (f_D_remove τ 0) 12 (1 : Int32).toNatClampNeg).toNatClampNeg) = 0 then (if (am (f_D_remove τ 0) 1 (am (f_D_remove τ 0) 12 (1 : Int32).toNatClampNeg).toNatClampNeg) ≤ (am (f_D_remove τ 0) 12 (2 : Int32).toNatClampNeg) then (if (am (f_D_remove τ 0) 12 (2 : Int32).toNatClampNeg) ≤ (am (f_D_remove τ 0) 1 (am (f_D_remove τ 0) 12 (1 : Int32).toNatClampNeg).toNatClampNeg) then (f_D_pump_151 (f_D_remove τ 0) (am (f_D_remove τ 0) 12 (1 : Int32).toNatClampNeg)) else (if (f_D_becomeTerm (f_D_remove τ 0) (am (f_D_remove τ 0) 12 (1 : Int32).toNatClampNeg) (am (f_D_remove τ 0) 12 (2 : Int32).toNatClampNeg)).1 = 0 then ((am (f_D_becomeTerm (f_D_remove τ 0) (am (f_D_remove τ 0) 12 (1 : Int32).toNatClampNeg) (am (f_D_remove τ 0) 12 (2 : Int32).toNatClampNeg)).2 12 (0 : Int32).toNatClampNeg), (f_D_becomeTerm (f_D_remove τ 0) (am (f_D_remove τ 0) 12 (1 : Int32).toNatClampNeg) (am (f_D_remove τ 0) 12 (2 : Int32).toNatClampNeg)).2) else (f_D_pump_151 (da (f_D_becomeTerm (f_D_remove τ 0) (am (f_D_remove τ 0) 12 (1 : Int32).toNatClampNeg) (am (f_D_remove τ 0) 12 (2 : Int32).toNatClampNeg)).2 4 (am (f_D_remove τ 0) 12 (1 : Int32).toNatClampNeg).toNatClampNeg 0) (am (f_D_remove τ 0) 12 (1 : Int32).toNatClampNeg)))) else (if (am (f_D_remove τ 0) 12 (0 : Int32).toNatClampNeg) = 1 then (f_D_pump_98 (f_D_send (f_D_remove τ 0) (am (f_D_remove τ 0) 12 (1 : Int32).toNatClampNeg) 3 (-1))) else (f_D_pump_98 (f_D_remove τ 0)))) else ((10 + (am (f_D_remove τ 0) 12 (0 : Int32).toNatClampNeg)), (f_D_remove τ 0))) else (f_D_pump_11 fuel (da τ 12 v1.toNatClampNeg (am τ 11 v1.toNatClampNeg)) (v1 + 1)))
def f_D_pump (τ : Mt) : Int32 × Mt := (if (mz τ) = 0 then (0, τ) else (f_D_pump_11 10 τ 0))
set_option maxHeartbeats 4000000 in
set_option maxRecDepth 100000 in
theorem c_D_pump (l : Launch) (D : va_G) (ca : Nat → ClassId) (ad : Nat → Nat) (A : Nat → Prop) (τ : Mt) (hB : Ds τ) (hM : ¬ mz τ = 0 → vp_in (am τ 11 1) 2 ∧ (am τ 11 0 = 1 → vp_in (am τ 11 3) 64)) : Met l y_D_pump (Cond.code y_D_pump b_D_pump 2 (some .int) :: BASE) (rmK 3) (va_Pc [.ref (ad 0)] (Pre D (tysD ca) A (wD ca ad τ))) (va_Qi (fun r u => (r, u) = f_D_pump τ) (Pst D A (wD ca ad)) A) 0 0 A := by
  refine enterIx (by decide) (Nat.le_of_ble_eq_true rfl) ?_
  intro Φ hΦ p e s m args below meth c Q X hret I ls hl
  have hx := X.x
  have hb := X.b
  have hl : lv_has ls 2 [(0, .ref (ad 0))] := hl
  have blk_354 : ∀ (τ : Mt) (H : Heap) (locs : List Loc) (ls : Array Slot), In D A s.heap (wD ca ad τ) H locs → lv_has ls 2 [(0, .ref (ad 0))] → Φ (f_D_pump_354 τ) → W p l e (rmK 3) s m args below meth c H locs 0 0 Q (F0 m 354 ls []) := by
    intro τ H locs ls I hl hΦ
    rw [f_D_pump_354] at hΦ
    refine lv_aload_n hx hb d_D_pump_354 rfl (lv_at hl 0 rfl) ?_
    refine dGetA 12 X I (by decide) (by decide) d_D_pump_355 ?_
    refine lv_iconst (v := 0) hx hb d_D_pump_358 (by decide) ?_
    refine dIald 12 X I (by decide) rfl (vi (by decide)) d_D_pump_359 ?_
    exact hret _ _ _ _ _ _ I hΦ d_D_pump_360
  have blk_351 : ∀ (τ : Mt) (a : Int32) (v : Int32) (H : Heap) (locs : List Loc) (ls : Array Slot), In D A s.heap (wD ca ad τ) H locs → lv_has ls 2 [(0, .ref (ad 0)), (1, .int a)] → Φ (f_D_pump_351 τ a v) → (Ds τ) → (vp_in a 2) → (am τ 12 0 = 1 → vp_in (am τ 12 3) 64) → W p l e (rmK 3) s m args below meth c H locs 0 0 Q (F0 m 351 ls [.int v, .int a, .ref (ad 0)]) := by
    intro τ a v H locs ls I hl hΦ hB ha hc
    rw [f_D_pump_351] at hΦ
    refine goVf (wf := wD ca ad) I (rD X I [.int a, .int v] (c_D_shipIfThere l D ca ad A τ a v hB.1 ha (hB.2 _ (vlt ha)).2) k_D_77 rfl hl rfl ⟨Nat.le_of_ble_eq_true rfl, Nat.le_of_ble_eq_true rfl⟩ (Nat.le_of_ble_eq_true rfl) ⟨Nat.le_refl 0, Nat.le_refl 0⟩ d_D_pump_351) (fun H locs I => ?_)
    exact blk_354 (f_D_shipIfThere τ a v) _ _ _ I (lv_sub hl [0] rfl) hΦ
  have blk_289 : ∀ (τ : Mt) (a : Int32) (H : Heap) (locs : List Loc) (ls : Array Slot), In D A s.heap (wD ca ad τ) H locs → lv_has ls 2 [(0, .ref (ad 0)), (1, .int a)] → Φ (f_D_pump_289 τ a) → (Ds τ) → (vp_in a 2) → (am τ 12 0 = 1 → vp_in (am τ 12 3) 64) → W p l e (rmK 3) s m args below meth c H locs 0 0 Q (F0 m 289 ls []) := by
    intro τ a H locs ls I hl hΦ hB ha hc
    rw [f_D_pump_289] at hΦ
    refine lv_aload_n hx hb d_D_pump_289 rfl (lv_at hl 0 rfl) ?_
    refine dGetA 12 X I (by decide) (by decide) d_D_pump_290 ?_
    refine lv_iconst (v := 0) hx hb d_D_pump_293 (by decide) ?_
    refine dIald 12 X I (by decide) rfl (vi (by decide)) d_D_pump_294 ?_
    refine lv_iconst (v := 3) hx hb d_D_pump_295 (by decide) ?_
    refine lv_icmp_ne (tgt := 354) hx hb d_D_pump_296 (by decide) (fun c_296 => ?_) (fun c_296 => ?_)
    · rw [if_neg c_296] at hΦ
      exact blk_354 τ _ _ _ I (lv_sub hl [0] rfl) hΦ
    · rw [if_pos c_296] at hΦ
      refine lv_aload_n hx hb d_D_pump_299 rfl (lv_at hl 0 rfl) ?_
      refine dGetA 4 X I (by decide) (by decide) d_D_pump_300 ?_
      refine lv_iload_n hx hb d_D_pump_303 rfl (lv_at hl 1 rfl) ?_
      refine dZald 4 X I (by decide) ha d_D_pump_304 ?_
      refine lv_if_eq (tgt := 354) hx hb d_D_pump_305 (by decide) (fun c_305 => ?_) (fun c_305 => ?_)
      · rw [if_pos c_305] at hΦ
        exact blk_354 τ _ _ _ I (lv_sub hl [0] rfl) hΦ
      · rw [if_neg c_305] at hΦ
        refine lv_aload_n hx hb d_D_pump_308 rfl (lv_at hl 0 rfl) ?_
        refine dGetA 12 X I (by decide) (by decide) d_D_pump_309 ?_
        refine lv_iconst (v := 3) hx hb d_D_pump_312 (by decide) ?_
        refine dIald 12 X I (by decide) rfl (vi (by decide)) d_D_pump_313 ?_
        refine lv_if_lt (tgt := 354) hx hb d_D_pump_314 (by decide) (fun c_314 => ?_) (fun c_314 => ?_)
        · rw [if_pos c_314] at hΦ
          exact blk_354 τ _ _ _ I (lv_sub hl [0] rfl) hΦ
        · rw [if_neg c_314] at hΦ
          refine lv_aload_n hx hb d_D_pump_317 rfl (lv_at hl 0 rfl) ?_
          refine lv_iload_n hx hb d_D_pump_318 rfl (lv_at hl 1 rfl) ?_
          refine lv_aload_n hx hb d_D_pump_319 rfl (lv_at hl 0 rfl) ?_
          refine dGetA 12 X I (by decide) (by decide) d_D_pump_320 ?_
          refine lv_iconst (v := 3) hx hb d_D_pump_323 (by decide) ?_
          refine dIald 12 X I (by decide) rfl (vi (by decide)) d_D_pump_324 ?_
          refine lv_aload_n hx hb d_D_pump_325 rfl (lv_at hl 0 rfl) ?_
          refine dGetA 2 X I (by decide) (by decide) d_D_pump_326 ?_
          refine lv_iload_n hx hb d_D_pump_329 rfl (lv_at hl 1 rfl) ?_
          refine dIald 2 X I (by decide) rfl ha d_D_pump_330 ?_
          refine lv_icmp_ge (tgt := 343) hx hb d_D_pump_331 (by decide) (fun c_331 => ?_) (fun c_331 => ?_)
          · rw [if_pos c_331] at hΦ
            refine lv_aload_n hx hb d_D_pump_343 rfl (lv_at hl 0 rfl) ?_
            refine dGetA 2 X I (by decide) (by decide) d_D_pump_344 ?_
            refine lv_iload_n hx hb d_D_pump_347 rfl (lv_at hl 1 rfl) ?_
            refine dIald 2 X I (by decide) rfl ha d_D_pump_348 ?_
            refine lv_iconst (v := 1) hx hb d_D_pump_349 (by decide) ?_
            refine lv_isub hx hb d_D_pump_350 ?_
            exact blk_351 τ a ((am τ 2 a.toNatClampNeg) - 1) _ _ _ I (lv_sub hl [0, 1] rfl) hΦ hB ha hc
          · rw [if_neg c_331] at hΦ
            refine lv_aload_n hx hb d_D_pump_334 rfl (lv_at hl 0 rfl) ?_
            refine dGetA 12 X I (by decide) (by decide) d_D_pump_335 ?_
            refine lv_iconst (v := 3) hx hb d_D_pump_338 (by decide) ?_
            refine dIald 12 X I (by decide) rfl (vi (by decide)) d_D_pump_339 ?_
            refine lv_goto (tgt := 351) hx hb d_D_pump_340 (by decide) ?_
            exact blk_351 τ a (am τ 12 (3 : Int32).toNatClampNeg) _ _ _ I (lv_sub hl [0, 1] rfl) hΦ hB ha hc
  have blk_218 : ∀ (τ : Mt) (a : Int32) (H : Heap) (locs : List Loc) (ls : Array Slot), In D A s.heap (wD ca ad τ) H locs → lv_has ls 2 [(0, .ref (ad 0)), (1, .int a)] → Φ (f_D_pump_218 τ a) → (Ds τ) → (vp_in a 2) → (am τ 12 0 = 1 → vp_in (am τ 12 3) 64) → W p l e (rmK 3) s m args below meth c H locs 0 0 Q (F0 m 218 ls []) := by
    intro τ a H locs ls I hl hΦ hB ha hc
    rw [f_D_pump_218] at hΦ
    refine lv_aload_n hx hb d_D_pump_218 rfl (lv_at hl 0 rfl) ?_
    refine dGetA 12 X I (by decide) (by decide) d_D_pump_219 ?_
    refine lv_iconst (v := 0) hx hb d_D_pump_222 (by decide) ?_
    refine dIald 12 X I (by decide) rfl (vi (by decide)) d_D_pump_223 ?_
    refine lv_iconst (v := 2) hx hb d_D_pump_224 (by decide) ?_
    refine lv_icmp_ne (tgt := 289) hx hb d_D_pump_225 (by decide) (fun c_225 => ?_) (fun c_225 => ?_)
    · rw [if_neg c_225] at hΦ
      exact blk_289 τ a _ _ _ I (lv_sub hl [0, 1] rfl) hΦ hB ha hc
    · rw [if_pos c_225] at hΦ
      refine lv_aload_n hx hb d_D_pump_228 rfl (lv_at hl 0 rfl) ?_
      refine dGetA 4 X I (by decide) (by decide) d_D_pump_229 ?_
      refine lv_iload_n hx hb d_D_pump_232 rfl (lv_at hl 1 rfl) ?_
      refine dZald 4 X I (by decide) ha d_D_pump_233 ?_
      refine lv_if_eq (tgt := 289) hx hb d_D_pump_234 (by decide) (fun c_234 => ?_) (fun c_234 => ?_)
      · rw [if_pos c_234] at hΦ
        exact blk_289 τ a _ _ _ I (lv_sub hl [0, 1] rfl) hΦ hB ha hc
      · rw [if_neg c_234] at hΦ
        refine lv_aload_n hx hb d_D_pump_237 rfl (lv_at hl 0 rfl) ?_
        refine dGetA 5 X I (by decide) (by decide) d_D_pump_238 ?_
        refine lv_iload_n hx hb d_D_pump_241 rfl (lv_at hl 1 rfl) ?_
        refine lv_aload_n hx hb d_D_pump_242 rfl (lv_at hl 0 rfl) ?_
        refine dGetA 12 X I (by decide) (by decide) d_D_pump_243 ?_
        refine lv_iconst (v := 3) hx hb d_D_pump_246 (by decide) ?_
        refine dIald 12 X I (by decide) rfl (vi (by decide)) d_D_pump_247 ?_
        refine lv_aload_n hx hb d_D_pump_248 rfl (lv_at hl 0 rfl) ?_
        refine dGetA 5 X I (by decide) (by decide) d_D_pump_249 ?_
        refine lv_iload_n hx hb d_D_pump_252 rfl (lv_at hl 1 rfl) ?_
        refine dIald 5 X I (by decide) rfl ha d_D_pump_253 ?_
        refine lv_icmp_le (tgt := 266) hx hb d_D_pump_254 (by decide) (fun c_254 => ?_) (fun c_254 => ?_)
        · rw [if_pos c_254] at hΦ
          refine lv_aload_n hx hb d_D_pump_266 rfl (lv_at hl 0 rfl) ?_
          refine dGetA 5 X I (by decide) (by decide) d_D_pump_267 ?_
          refine lv_iload_n hx hb d_D_pump_270 rfl (lv_at hl 1 rfl) ?_
          refine dIald 5 X I (by decide) rfl ha d_D_pump_271 ?_
          refine dIast 5 X I (by decide) rfl ha d_D_pump_272 (fun H locs I => ?_)
          refine lv_aload_n hx hb d_D_pump_273 rfl (lv_at hl 0 rfl) ?_
          refine lv_iload_n hx hb d_D_pump_274 rfl (lv_at hl 1 rfl) ?_
          refine lv_aload_n hx hb d_D_pump_275 rfl (lv_at hl 0 rfl) ?_
          refine dGetA 12 X I (by decide) (by decide) d_D_pump_276 ?_
          refine lv_iconst (v := 3) hx hb d_D_pump_279 (by decide) ?_
          refine dIald 12 X I (by decide) rfl (vi (by decide)) d_D_pump_280 ?_
          refine lv_iconst (v := 1) hx hb d_D_pump_281 (by decide) ?_
          refine lv_iadd hx hb d_D_pump_282 ?_
          refine goVf (wf := wD ca ad) I (rD X I [.int a, .int ((am (da τ 5 a.toNatClampNeg (am τ 5 a.toNatClampNeg)) 12 (3 : Int32).toNatClampNeg) + 1)] (c_D_shipIfThere l D ca ad A (da τ 5 a.toNatClampNeg (am τ 5 a.toNatClampNeg)) a ((am (da τ 5 a.toNatClampNeg (am τ 5 a.toNatClampNeg)) 12 (3 : Int32).toNatClampNeg) + 1) hB.1 ha (by rw [am_o (by decide)]; exact (hB.2 _ (vlt ha)).2)) k_D_77 rfl hl rfl ⟨Nat.le_of_ble_eq_true rfl, Nat.le_of_ble_eq_true rfl⟩ (Nat.le_of_ble_eq_true rfl) ⟨Nat.le_refl 0, Nat.le_refl 0⟩ d_D_pump_283) (fun H locs I => ?_)
          refine lv_goto (tgt := 354) hx hb d_D_pump_286 (by decide) ?_
          exact blk_354 (f_D_shipIfThere (da τ 5 a.toNatClampNeg (am τ 5 a.toNatClampNeg)) a ((am (da τ 5 a.toNatClampNeg (am τ 5 a.toNatClampNeg)) 12 (3 : Int32).toNatClampNeg) + 1)) _ _ _ I (lv_sub hl [0] rfl) hΦ
        · rw [if_neg c_254] at hΦ
          refine lv_aload_n hx hb d_D_pump_257 rfl (lv_at hl 0 rfl) ?_
          refine dGetA 12 X I (by decide) (by decide) d_D_pump_258 ?_
          refine lv_iconst (v := 3) hx hb d_D_pump_261 (by decide) ?_
          refine dIald 12 X I (by decide) rfl (vi (by decide)) d_D_pump_262 ?_
          refine lv_goto (tgt := 272) hx hb d_D_pump_263 (by decide) ?_
          refine dIast 5 X I (by decide) rfl ha d_D_pump_272 (fun H locs I => ?_)
          refine lv_aload_n hx hb d_D_pump_273 rfl (lv_at hl 0 rfl) ?_
          refine lv_iload_n hx hb d_D_pump_274 rfl (lv_at hl 1 rfl) ?_
          refine lv_aload_n hx hb d_D_pump_275 rfl (lv_at hl 0 rfl) ?_
          refine dGetA 12 X I (by decide) (by decide) d_D_pump_276 ?_
          refine lv_iconst (v := 3) hx hb d_D_pump_279 (by decide) ?_
          refine dIald 12 X I (by decide) rfl (vi (by decide)) d_D_pump_280 ?_
          refine lv_iconst (v := 1) hx hb d_D_pump_281 (by decide) ?_
          refine lv_iadd hx hb d_D_pump_282 ?_
          refine goVf (wf := wD ca ad) I (rD X I [.int a, .int ((am (da τ 5 a.toNatClampNeg (am τ 12 (3 : Int32).toNatClampNeg)) 12 (3 : Int32).toNatClampNeg) + 1)] (c_D_shipIfThere l D ca ad A (da τ 5 a.toNatClampNeg (am τ 12 (3 : Int32).toNatClampNeg)) a ((am (da τ 5 a.toNatClampNeg (am τ 12 (3 : Int32).toNatClampNeg)) 12 (3 : Int32).toNatClampNeg) + 1) hB.1 ha (by rw [am_o (by decide)]; exact (hB.2 _ (vlt ha)).2)) k_D_77 rfl hl rfl ⟨Nat.le_of_ble_eq_true rfl, Nat.le_of_ble_eq_true rfl⟩ (Nat.le_of_ble_eq_true rfl) ⟨Nat.le_refl 0, Nat.le_refl 0⟩ d_D_pump_283) (fun H locs I => ?_)
          refine lv_goto (tgt := 354) hx hb d_D_pump_286 (by decide) ?_
          exact blk_354 (f_D_shipIfThere (da τ 5 a.toNatClampNeg (am τ 12 (3 : Int32).toNatClampNeg)) a ((am (da τ 5 a.toNatClampNeg (am τ 12 (3 : Int32).toNatClampNeg)) 12 (3 : Int32).toNatClampNeg) + 1)) _ _ _ I (lv_sub hl [0] rfl) hΦ
  have blk_172 : ∀ (τ : Mt) (a : Int32) (v : Int32) (w : Int32) (H : Heap) (locs : List Loc) (ls : Array Slot), In D A s.heap (wD ca ad τ) H locs → lv_has ls 2 [(0, .ref (ad 0)), (1, .int a)] → Φ (f_D_pump_172 τ a v w) → (Ds τ) → (vp_in a 2) → (am τ 12 0 = 1 → vp_in (am τ 12 3) 64) → W p l e (rmK 3) s m args below meth c H locs 0 0 Q (F0 m 172 ls [.int v, .int w]) := by
    intro τ a v w H locs ls I hl hΦ hB ha hc
    rw [f_D_pump_172] at hΦ
    refine lv_icmp_ne (tgt := 185) hx hb d_D_pump_172 (by decide) (fun c_172 => ?_) (fun c_172 => ?_)
    · rw [if_neg c_172] at hΦ
      refine lv_aload_n hx hb d_D_pump_185 rfl (lv_at hl 0 rfl) ?_
      refine dGetA 12 X I (by decide) (by decide) d_D_pump_186 ?_
      refine lv_iconst (v := 0) hx hb d_D_pump_189 (by decide) ?_
      refine dIald 12 X I (by decide) rfl (vi (by decide)) d_D_pump_190 ?_
      refine lv_iconst (v := 1) hx hb d_D_pump_191 (by decide) ?_
      refine lv_icmp_ne (tgt := 218) hx hb d_D_pump_192 (by decide) (fun c_192 => ?_) (fun c_192 => ?_)
      · rw [if_neg c_192] at hΦ
        exact blk_218 τ a _ _ _ I (lv_sub hl [0, 1] rfl) hΦ hB ha hc
      · rw [if_pos c_192] at hΦ
        refine lv_aload_n hx hb d_D_pump_195 rfl (lv_at hl 0 rfl) ?_
        refine dGetA 4 X I (by decide) (by decide) d_D_pump_196 ?_
        refine lv_iload_n hx hb d_D_pump_199 rfl (lv_at hl 1 rfl) ?_
        refine dZald 4 X I (by decide) ha d_D_pump_200 ?_
        refine lv_if_ne (tgt := 218) hx hb d_D_pump_201 (by decide) (fun c_201 => ?_) (fun c_201 => ?_)
        · rw [if_neg c_201] at hΦ
          exact blk_218 τ a _ _ _ I (lv_sub hl [0, 1] rfl) hΦ hB ha hc
        · rw [if_pos c_201] at hΦ
          refine lv_aload_n hx hb d_D_pump_204 rfl (lv_at hl 0 rfl) ?_
          refine lv_iload_n hx hb d_D_pump_205 rfl (lv_at hl 1 rfl) ?_
          refine lv_aload_n hx hb d_D_pump_206 rfl (lv_at hl 0 rfl) ?_
          refine dGetA 12 X I (by decide) (by decide) d_D_pump_207 ?_
          refine lv_iconst (v := 3) hx hb d_D_pump_210 (by decide) ?_
          refine dIald 12 X I (by decide) rfl (vi (by decide)) d_D_pump_211 ?_
          refine goVf (wf := wD ca ad) I (rD X I [.int a, .int (am τ 12 (3 : Int32).toNatClampNeg)] (c_D_shipped l D ca ad A τ a (am τ 12 (3 : Int32).toNatClampNeg) hB.1 ha (hc c_192)) k_D_73 rfl hl rfl ⟨Nat.le_of_ble_eq_true rfl, Nat.le_of_ble_eq_true rfl⟩ (Nat.le_of_ble_eq_true rfl) ⟨Nat.le_refl 0, Nat.le_refl 0⟩ d_D_pump_212) (fun H locs I => ?_)
          refine lv_goto (tgt := 354) hx hb d_D_pump_215 (by decide) ?_
          exact blk_354 (f_D_shipped τ a (am τ 12 (3 : Int32).toNatClampNeg)) _ _ _ I (lv_sub hl [0] rfl) hΦ
    · rw [if_pos c_172] at hΦ
      refine lv_bipush (v := 20) hx hb d_D_pump_175 (by decide) ?_
      refine lv_aload_n hx hb d_D_pump_177 rfl (lv_at hl 0 rfl) ?_
      refine dGetA 12 X I (by decide) (by decide) d_D_pump_178 ?_
      refine lv_iconst (v := 0) hx hb d_D_pump_181 (by decide) ?_
      refine dIald 12 X I (by decide) rfl (vi (by decide)) d_D_pump_182 ?_
      refine lv_iadd hx hb d_D_pump_183 ?_
      exact hret _ _ _ _ _ _ I hΦ d_D_pump_184
  have blk_151 : ∀ (τ : Mt) (a : Int32) (H : Heap) (locs : List Loc) (ls : Array Slot), In D A s.heap (wD ca ad τ) H locs → lv_has ls 2 [(0, .ref (ad 0)), (1, .int a)] → Φ (f_D_pump_151 τ a) → (Ds τ) → (vp_in a 2) → (am τ 12 0 = 1 → vp_in (am τ 12 3) 64) → W p l e (rmK 3) s m args below meth c H locs 0 0 Q (F0 m 151 ls []) := by
    intro τ a H locs ls I hl hΦ hB ha hc
    rw [f_D_pump_151] at hΦ
    refine lv_aload_n hx hb d_D_pump_151 rfl (lv_at hl 0 rfl) ?_
    refine dGetA 4 X I (by decide) (by decide) d_D_pump_152 ?_
    refine lv_iload_n hx hb d_D_pump_155 rfl (lv_at hl 1 rfl) ?_
    refine dZald 4 X I (by decide) ha d_D_pump_156 ?_
    refine lv_aload_n hx hb d_D_pump_157 rfl (lv_at hl 0 rfl) ?_
    refine dGetA 12 X I (by decide) (by decide) d_D_pump_158 ?_
    refine lv_iconst (v := 0) hx hb d_D_pump_161 (by decide) ?_
    refine dIald 12 X I (by decide) rfl (vi (by decide)) d_D_pump_162 ?_
    refine lv_iconst (v := 1) hx hb d_D_pump_163 (by decide) ?_
    refine lv_icmp_ne (tgt := 171) hx hb d_D_pump_164 (by decide) (fun c_164 => ?_) (fun c_164 => ?_)
    · rw [if_neg c_164] at hΦ
      refine lv_iconst (v := 0) hx hb d_D_pump_171 (by decide) ?_
      exact blk_172 τ a 0 (am τ 4 a.toNatClampNeg) _ _ _ I (lv_sub hl [0, 1] rfl) hΦ hB ha hc
    · rw [if_pos c_164] at hΦ
      refine lv_iconst (v := 1) hx hb d_D_pump_167 (by decide) ?_
      refine lv_goto (tgt := 172) hx hb d_D_pump_168 (by decide) ?_
      exact blk_172 τ a 1 (am τ 4 a.toNatClampNeg) _ _ _ I (lv_sub hl [0, 1] rfl) hΦ hB ha hc
  have blk_98 : ∀ (τ : Mt) (H : Heap) (locs : List Loc) (ls : Array Slot), In D A s.heap (wD ca ad τ) H locs → lv_has ls 2 [(0, .ref (ad 0))] → Φ (f_D_pump_98 τ) → W p l e (rmK 3) s m args below meth c H locs 0 0 Q (F0 m 98 ls []) := by
    intro τ H locs ls I hl hΦ
    rw [f_D_pump_98] at hΦ
    refine lv_bipush (v := 20) hx hb d_D_pump_98 (by decide) ?_
    refine lv_aload_n hx hb d_D_pump_100 rfl (lv_at hl 0 rfl) ?_
    refine dGetA 12 X I (by decide) (by decide) d_D_pump_101 ?_
    refine lv_iconst (v := 0) hx hb d_D_pump_104 (by decide) ?_
    refine dIald 12 X I (by decide) rfl (vi (by decide)) d_D_pump_105 ?_
    refine lv_iadd hx hb d_D_pump_106 ?_
    exact hret _ _ _ _ _ _ I hΦ d_D_pump_107
  have blk_11 : ∀ (fuel : Nat) (τ : Mt) (v1 : Int32) (H : Heap) (locs : List Loc) (ls : Array Slot), In D A s.heap (wD ca ad τ) H locs → lv_has ls 2 [(0, .ref (ad 0)), (1, .int v1)] → Φ (f_D_pump_11 fuel τ v1) → (Ds τ) → (1 ≤ (mz τ).toInt) → (vp_in (am τ 11 1) 2 ∧ (am τ 11 0 = 1 → vp_in (am τ 11 3) 64)) → (0 ≤ v1.toInt ∧ v1.toInt ≤ 9) → (∀ k : Nat, k < v1.toInt.toNat → am τ 12 k = am τ 11 k) → (9 - v1.toInt < fuel) → W p l e (rmK 3) s m args below meth c H locs 0 0 Q (F0 m 11 ls []) := by
    intro fuel
    induction fuel with
    | zero => intro τ v1 H locs ls I hl hΦ hB hz hM h1 hcm hf; exact absurd hf (by omega)
    | succ fuel ih =>
      intro τ v1 H locs ls I hl hΦ hB hz hM h1 hcm hf
      rw [f_D_pump_11] at hΦ
      refine lv_iload_n hx hb d_D_pump_11 rfl (lv_at hl 1 rfl) ?_
      refine lv_bipush (v := 9) hx hb d_D_pump_12 (by decide) ?_
      refine lv_icmp_ge (tgt := 35) hx hb d_D_pump_14 (by decide) (fun c_14 => ?_) (fun c_14 => ?_)
      · rw [if_pos c_14] at hΦ
        have hge : 9 ≤ v1.toInt := by have := c_14; rw [n_le, n_9] at this; exact this
        have hzz : 1 ≤ (mz τ).toInt ∧ (mz τ).toInt ≤ 16 := ⟨hz, hB.1.2⟩
        have r12 := (@rem_k τ 0).2 12 (by decide)
        have r2 := (@rem_k τ 0).2 2 (by decide)
        have ha : vp_in (am (f_D_remove τ 0) 12 (1 : Int32).toNatClampNeg) 2 := by
          rw [r12]
          show vp_in (am τ 12 1) 2
          rw [hcm 1 (by omega)]
          exact hM.1
        have hc : am (f_D_remove τ 0) 12 0 = 1 → vp_in (am (f_D_remove τ 0) 12 3) 64 := by
          rw [r12, hcm 0 (by omega), hcm 3 (by omega)]
          exact hM.2
        have hB1 : Ds (f_D_remove τ 0) := ⟨rem_Dz hzz, fun n hn => by rw [r2]; exact hB.2 n hn⟩
        refine lv_aload_n hx hb d_D_pump_35 rfl (lv_at hl 0 rfl) ?_
        refine lv_iconst (v := 0) hx hb d_D_pump_36 (by decide) ?_
        refine goVf (wf := wD ca ad) I (rD X I [.int 0] (c_D_remove l D ca ad A τ 0 hzz (vi (by decide))) k_D_65 rfl hl rfl ⟨Nat.le_of_ble_eq_true rfl, Nat.le_of_ble_eq_true rfl⟩ (Nat.le_of_ble_eq_true rfl) ⟨Nat.le_refl 0, Nat.le_refl 0⟩ d_D_pump_37) (fun H locs I => ?_)
        refine lv_aload_n hx hb d_D_pump_40 rfl (lv_at hl 0 rfl) ?_
        refine dGetA 12 X I (by decide) (by decide) d_D_pump_41 ?_
        refine lv_iconst (v := 1) hx hb d_D_pump_44 (by decide) ?_
        refine dIald 12 X I (by decide) rfl (vi (by decide)) d_D_pump_45 ?_
        refine lv_istore_n (lv' := [(1, .int (am (f_D_remove τ 0) 12 (1 : Int32).toNatClampNeg)), (0, .ref (ad 0))]) hx hb d_D_pump_46 rfl hl (by decide) rfl (fun ls hl => ?_)
        refine lv_aload_n hx hb d_D_pump_47 rfl (lv_at hl 1 rfl) ?_
        refine dGetA 3 X I (by decide) (by decide) d_D_pump_48 ?_
        refine lv_iload_n hx hb d_D_pump_51 rfl (lv_at hl 0 rfl) ?_
        refine dZald 3 X I (by decide) ha d_D_pump_52 ?_
        refine lv_if_eq (tgt := 66) hx hb d_D_pump_53 (by decide) (fun c_53 => ?_) (fun c_53 => ?_)
        · rw [if_pos c_53] at hΦ
          refine lv_aload_n hx hb d_D_pump_66 rfl (lv_at hl 1 rfl) ?_
          refine dGetA 12 X I (by decide) (by decide) d_D_pump_67 ?_
          refine lv_iconst (v := 2) hx hb d_D_pump_70 (by decide) ?_
          refine dIald 12 X I (by decide) rfl (vi (by decide)) d_D_pump_71 ?_
          refine lv_aload_n hx hb d_D_pump_72 rfl (lv_at hl 1 rfl) ?_
          refine dGetA 1 X I (by decide) (by decide) d_D_pump_73 ?_
          refine lv_iload_n hx hb d_D_pump_76 rfl (lv_at hl 0 rfl) ?_
          refine dIald 1 X I (by decide) rfl ha d_D_pump_77 ?_
          refine lv_icmp_ge (tgt := 108) hx hb d_D_pump_78 (by decide) (fun c_78 => ?_) (fun c_78 => ?_)
          · rw [if_pos c_78] at hΦ
            refine lv_aload_n hx hb d_D_pump_108 rfl (lv_at hl 1 rfl) ?_
            refine dGetA 12 X I (by decide) (by decide) d_D_pump_109 ?_
            refine lv_iconst (v := 2) hx hb d_D_pump_112 (by decide) ?_
            refine dIald 12 X I (by decide) rfl (vi (by decide)) d_D_pump_113 ?_
            refine lv_aload_n hx hb d_D_pump_114 rfl (lv_at hl 1 rfl) ?_
            refine dGetA 1 X I (by decide) (by decide) d_D_pump_115 ?_
            refine lv_iload_n hx hb d_D_pump_118 rfl (lv_at hl 0 rfl) ?_
            refine dIald 1 X I (by decide) rfl ha d_D_pump_119 ?_
            refine lv_icmp_le (tgt := 151) hx hb d_D_pump_120 (by decide) (fun c_120 => ?_) (fun c_120 => ?_)
            · rw [if_pos c_120] at hΦ
              exact blk_151 (f_D_remove τ 0) (am (f_D_remove τ 0) 12 (1 : Int32).toNatClampNeg) _ _ _ I (lv_sub hl [1, 0] rfl) hΦ hB1 ha hc
            · rw [if_neg c_120] at hΦ
              refine lv_aload_n hx hb d_D_pump_123 rfl (lv_at hl 1 rfl) ?_
              refine lv_iload_n hx hb d_D_pump_124 rfl (lv_at hl 0 rfl) ?_
              refine lv_aload_n hx hb d_D_pump_125 rfl (lv_at hl 1 rfl) ?_
              refine dGetA 12 X I (by decide) (by decide) d_D_pump_126 ?_
              refine lv_iconst (v := 2) hx hb d_D_pump_129 (by decide) ?_
              refine dIald 12 X I (by decide) rfl (vi (by decide)) d_D_pump_130 ?_
              refine goIf (wf := wD ca ad) I (rD X I [.int (am (f_D_remove τ 0) 12 (1 : Int32).toNatClampNeg), .int (am (f_D_remove τ 0) 12 (2 : Int32).toNatClampNeg)] (c_D_becomeTerm l D ca ad A (f_D_remove τ 0) (am (f_D_remove τ 0) 12 (1 : Int32).toNatClampNeg) (am (f_D_remove τ 0) 12 (2 : Int32).toNatClampNeg) ha) k_D_69 rfl hl rfl ⟨Nat.le_of_ble_eq_true rfl, Nat.le_of_ble_eq_true rfl⟩ (Nat.le_of_ble_eq_true rfl) ⟨Nat.le_refl 0, Nat.le_refl 0⟩ d_D_pump_131) (fun H locs I => ?_)
              refine lv_if_ne (tgt := 144) hx hb d_D_pump_134 (by decide) (fun c_134 => ?_) (fun c_134 => ?_)
              · rw [if_neg c_134] at hΦ
                refine lv_aload_n hx hb d_D_pump_144 rfl (lv_at hl 1 rfl) ?_
                refine dGetA 4 X I (by decide) (by decide) d_D_pump_145 ?_
                refine lv_iload_n hx hb d_D_pump_148 rfl (lv_at hl 0 rfl) ?_
                refine lv_iconst (v := 0) hx hb d_D_pump_149 (by decide) ?_
                refine dZast 4 X I (by decide) ha rfl d_D_pump_150 (fun H locs I => ?_)
                exact blk_151 (da (f_D_becomeTerm (f_D_remove τ 0) (am (f_D_remove τ 0) 12 (1 : Int32).toNatClampNeg) (am (f_D_remove τ 0) 12 (2 : Int32).toNatClampNeg)).2 4 (am (f_D_remove τ 0) 12 (1 : Int32).toNatClampNeg).toNatClampNeg 0) (am (f_D_remove τ 0) 12 (1 : Int32).toNatClampNeg) _ _ _ I (lv_sub hl [1, 0] rfl) hΦ ⟨hB1.1.of dbt_k.1, fun n hn => by rw [am_o (by decide), dbt_k.2.2]; exact hB1.2 n hn⟩ ha (by rw [am_o (by decide), dbt_k.2.1]; exact hc)
              · rw [if_pos c_134] at hΦ
                refine lv_aload_n hx hb d_D_pump_137 rfl (lv_at hl 1 rfl) ?_
                refine dGetA 12 X I (by decide) (by decide) d_D_pump_138 ?_
                refine lv_iconst (v := 0) hx hb d_D_pump_141 (by decide) ?_
                refine dIald 12 X I (by decide) rfl (vi (by decide)) d_D_pump_142 ?_
                exact hret _ _ _ _ _ _ I hΦ d_D_pump_143
          · rw [if_neg c_78] at hΦ
            refine lv_aload_n hx hb d_D_pump_81 rfl (lv_at hl 1 rfl) ?_
            refine dGetA 12 X I (by decide) (by decide) d_D_pump_82 ?_
            refine lv_iconst (v := 0) hx hb d_D_pump_85 (by decide) ?_
            refine dIald 12 X I (by decide) rfl (vi (by decide)) d_D_pump_86 ?_
            refine lv_iconst (v := 1) hx hb d_D_pump_87 (by decide) ?_
            refine lv_icmp_ne (tgt := 98) hx hb d_D_pump_88 (by decide) (fun c_88 => ?_) (fun c_88 => ?_)
            · rw [if_neg c_88] at hΦ
              exact blk_98 (f_D_remove τ 0) _ _ _ I (lv_sub hl [1] rfl) hΦ
            · rw [if_pos c_88] at hΦ
              refine lv_aload_n hx hb d_D_pump_91 rfl (lv_at hl 1 rfl) ?_
              refine lv_iload_n hx hb d_D_pump_92 rfl (lv_at hl 0 rfl) ?_
              refine lv_iconst (v := 3) hx hb d_D_pump_93 (by decide) ?_
              refine lv_iconst (v := (-1)) hx hb d_D_pump_94 (by decide) ?_
              refine goVf (wf := wD ca ad) I (rD X I [.int (am (f_D_remove τ 0) 12 (1 : Int32).toNatClampNeg), .int 3, .int (-1)] (c_D_send l D ca ad A (f_D_remove τ 0) (am (f_D_remove τ 0) 12 (1 : Int32).toNatClampNeg) 3 (-1) hB1.1 ha (fun h => absurd h (by decide))) k_D_61 rfl hl rfl ⟨Nat.le_of_ble_eq_true rfl, Nat.le_of_ble_eq_true rfl⟩ (Nat.le_of_ble_eq_true rfl) ⟨Nat.le_refl 0, Nat.le_refl 0⟩ d_D_pump_95) (fun H locs I => ?_)
              exact blk_98 (f_D_send (f_D_remove τ 0) (am (f_D_remove τ 0) 12 (1 : Int32).toNatClampNeg) 3 (-1)) _ _ _ I (lv_sub hl [1] rfl) hΦ
        · rw [if_neg c_53] at hΦ
          refine lv_bipush (v := 10) hx hb d_D_pump_56 (by decide) ?_
          refine lv_aload_n hx hb d_D_pump_58 rfl (lv_at hl 1 rfl) ?_
          refine dGetA 12 X I (by decide) (by decide) d_D_pump_59 ?_
          refine lv_iconst (v := 0) hx hb d_D_pump_62 (by decide) ?_
          refine dIald 12 X I (by decide) rfl (vi (by decide)) d_D_pump_63 ?_
          refine lv_iadd hx hb d_D_pump_64 ?_
          exact hret _ _ _ _ _ _ I hΦ d_D_pump_65
      · rw [if_neg c_14] at hΦ
        have hlt : v1.toInt < 9 := by have := c_14; rw [n_le, n_9] at this; omega
        have k9 : vp_in v1 9 := vi ⟨h1.1, hlt⟩
        have k1 : vp_in v1 144 := vi ⟨h1.1, by omega⟩
        have e1 : (v1 + 1).toInt = v1.toInt + 1 := by rw [n_add (by rw [n_1]; omega) (by rw [n_1]; omega), n_1]
        have hcm1 : ∀ k : Nat, k < (v1 + 1).toInt.toNat → am (da τ 12 v1.toNatClampNeg (am τ 11 v1.toNatClampNeg)) 12 k = am (da τ 12 v1.toNatClampNeg (am τ 11 v1.toNatClampNeg)) 11 k := by
          intro k hk
          rw [e1] at hk
          rw [am_o (by decide : (11 : Nat) ≠ 12), am_s, n_cl]
          unfold upd
          split
          · rename_i h; rw [h]
          · exact hcm k (by omega)
        refine lv_aload_n hx hb d_D_pump_17 rfl (lv_at hl 0 rfl) ?_
        refine dGetA 12 X I (by decide) (by decide) d_D_pump_18 ?_
        refine lv_iload_n hx hb d_D_pump_21 rfl (lv_at hl 1 rfl) ?_
        refine lv_aload_n hx hb d_D_pump_22 rfl (lv_at hl 0 rfl) ?_
        refine dGetA 11 X I (by decide) (by decide) d_D_pump_23 ?_
        refine lv_iload_n hx hb d_D_pump_26 rfl (lv_at hl 1 rfl) ?_
        refine dIald 11 X I (by decide) rfl k1 d_D_pump_27 ?_
        refine dIast 12 X I (by decide) rfl k9 d_D_pump_28 (fun H locs I => ?_)
        refine lv_iinc (v := (v1 + 1)) (lv' := [(1, .int (v1 + 1)), (0, .ref (ad 0))]) hx hb d_D_pump_29 hl (k := 1) rfl rfl (by decide) rfl (fun ls hl => ?_)
        refine lv_goto (tgt := 11) hx hb d_D_pump_32 (by decide) ?_
        exact ih (da τ 12 v1.toNatClampNeg (am τ 11 v1.toNatClampNeg)) (v1 + 1) _ _ _ I (lv_sub hl [1, 0] rfl) hΦ ⟨hB.1, fun n hn => by rw [am_o (by decide)]; exact hB.2 n hn⟩ hz (by rw [am_o (by decide)]; exact hM) ⟨by rw [e1]; omega, by rw [e1]; omega⟩ hcm1 (by rw [e1]; omega)
  rw [f_D_pump] at hΦ
  refine lv_aload_n hx hb d_D_pump_0 rfl (lv_at hl 0 rfl) ?_
  refine dGetZ X I d_D_pump_1 ?_
  refine lv_if_ne (tgt := 9) hx hb d_D_pump_4 (by decide) (fun c_4 => ?_) (fun c_4 => ?_)
  · rw [if_neg c_4] at hΦ
    have hz1 : 1 ≤ (mz τ).toInt := by have h1 := c_4; have h2 := hB.1.1; rw [n_eq, n_0] at h1; omega
    refine lv_iconst (v := 0) hx hb d_D_pump_9 (by decide) ?_
    refine lv_istore_n (lv' := [(1, .int 0), (0, .ref (ad 0))]) hx hb d_D_pump_10 rfl hl (by decide) rfl (fun ls hl => ?_)
    exact blk_11 10 τ 0 _ _ _ I (lv_sub hl [1, 0] rfl) hΦ hB hz1 (hM c_4) (by decide) (fun k hk => absurd hk (Nat.not_lt_zero k)) (by decide)
  · rw [if_pos c_4] at hΦ
    refine lv_iconst (v := 0) hx hb d_D_pump_7 (by decide) ?_
    exact hret _ _ _ _ _ _ I hΦ d_D_pump_8
end
section
def f_D_drop (τ : Mt) (a : Int32) : Int32 × Mt := (if a < 0 then (0, τ) else (if a < (mz τ) then (1, (f_D_remove τ a)) else (0, τ)))
set_option maxHeartbeats 4000000 in
set_option maxRecDepth 100000 in
theorem c_D_drop (l : Launch) (D : va_G) (ca : Nat → ClassId) (ad : Nat → Nat) (A : Nat → Prop) (τ : Mt) (a : Int32) (hZ : Dz τ) : Met l y_D_drop (Cond.code y_D_drop b_D_drop 2 (some .boolean) :: BASE) (rmK 1) (va_Pc [.ref (ad 0), .int a] (Pre D (tysD ca) A (wD ca ad τ))) (va_Qi (fun r u => (r, u) = f_D_drop τ a) (Pst D A (wD ca ad)) A) 0 0 A := by
  refine enterZx (by decide) (Nat.le_of_ble_eq_true rfl) ?_
  intro Φ hΦ p e s m args below meth c Q X hret I ls hl
  have hx := X.x
  have hb := X.b
  have hl : lv_has ls 2 [(0, .ref (ad 0)), (1, .int a)] := hl
  rw [f_D_drop] at hΦ
  refine lv_iload_n hx hb d_D_drop_0 rfl (lv_at hl 1 rfl) ?_
  refine lv_if_lt (tgt := 12) hx hb d_D_drop_1 (by decide) (fun c_1 => ?_) (fun c_1 => ?_)
  · rw [if_pos c_1] at hΦ
    refine lv_iconst (v := 0) hx hb d_D_drop_12 (by decide) ?_
    exact hret _ _ _ _ _ _ I hΦ d_D_drop_13 rfl
  · rw [if_neg c_1] at hΦ
    refine lv_iload_n hx hb d_D_drop_4 rfl (lv_at hl 1 rfl) ?_
    refine lv_aload_n hx hb d_D_drop_5 rfl (lv_at hl 0 rfl) ?_
    refine dGetZ X I d_D_drop_6 ?_
    refine lv_icmp_lt (tgt := 14) hx hb d_D_drop_9 (by decide) (fun c_9 => ?_) (fun c_9 => ?_)
    · rw [if_pos c_9] at hΦ
      have h1 := c_1
      have h2 := c_9
      rw [n_lt, n_0] at h1
      rw [n_lt] at h2
      have h3 : 0 ≤ (mz τ).toInt ∧ (mz τ).toInt ≤ 16 := hZ
      have hq : vp_in a 16 := vi ⟨by omega, by omega⟩
      have hq1 : 1 ≤ (mz τ).toInt ∧ (mz τ).toInt ≤ 16 := ⟨by omega, by omega⟩
      refine lv_aload_n hx hb d_D_drop_14 rfl (lv_at hl 0 rfl) ?_
      refine lv_iload_n hx hb d_D_drop_15 rfl (lv_at hl 1 rfl) ?_
      refine goVf (wf := wD ca ad) I (rD X I [.int a] (c_D_remove l D ca ad A τ a hq1 hq) k_D_65 rfl hl rfl ⟨Nat.le_of_ble_eq_true rfl, Nat.le_of_ble_eq_true rfl⟩ (Nat.le_of_ble_eq_true rfl) ⟨Nat.le_refl 0, Nat.le_refl 0⟩ d_D_drop_16) (fun H locs I => ?_)
      refine lv_iconst (v := 1) hx hb d_D_drop_19 (by decide) ?_
      exact hret _ _ _ _ _ _ I hΦ d_D_drop_20 rfl
    · rw [if_neg c_9] at hΦ
      refine lv_iconst (v := 0) hx hb d_D_drop_12 (by decide) ?_
      exact hret _ _ _ _ _ _ I hΦ d_D_drop_13 rfl
def f_D_fuse (τ : Mt) (a : Int32) (b : Int32) : Int32 × Mt := (if (f_D_isNode τ a) = 0 then ((-1), τ) else (if 0 ≤ b then (1, (da τ 6 a.toNatClampNeg b)) else (1, (da τ 6 a.toNatClampNeg (-1)))))
set_option maxHeartbeats 4000000 in
set_option maxRecDepth 100000 in
theorem c_D_fuse (l : Launch) (D : va_G) (ca : Nat → ClassId) (ad : Nat → Nat) (A : Nat → Prop) (τ : Mt) (a : Int32) (b : Int32) : Met l y_D_fuse (Cond.code y_D_fuse b_D_fuse 3 (some .int) :: BASE) (rmK 1) (va_Pc [.ref (ad 0), .int a, .int b] (Pre D (tysD ca) A (wD ca ad τ))) (va_Qi (fun r u => (r, u) = f_D_fuse τ a b) (Pst D A (wD ca ad)) A) 0 0 A := by
  refine enterIx (by decide) (Nat.le_of_ble_eq_true rfl) ?_
  intro Φ hΦ p e s m args below meth c Q X hret I ls hl
  have hx := X.x
  have hb := X.b
  have hl : lv_has ls 3 [(0, .ref (ad 0)), (1, .int a), (2, .int b)] := hl
  rw [f_D_fuse] at hΦ
  refine lv_iload_n hx hb d_D_fuse_0 rfl (lv_at hl 1 rfl) ?_
  refine goIp (wf := wD ca ad) (w := τ) I (runS X I [.int a] (c_D_isNode l D ca ad A τ a) k_D_54 rfl hl rfl ⟨Nat.le_of_ble_eq_true rfl, Nat.le_of_ble_eq_true rfl⟩ (Nat.le_of_ble_eq_true rfl) ⟨Nat.le_refl 0, Nat.le_refl 0⟩ d_D_fuse_1) (fun H locs I => ?_)
  refine lv_if_ne (tgt := 9) hx hb d_D_fuse_4 (by decide) (fun c_4 => ?_) (fun c_4 => ?_)
  · rw [if_neg c_4] at hΦ
    have ha : vp_in a 2 := isD_in c_4
    refine lv_aload_n hx hb d_D_fuse_9 rfl (lv_at hl 0 rfl) ?_
    refine dGetA 6 X I (by decide) (by decide) d_D_fuse_10 ?_
    refine lv_iload_n hx hb d_D_fuse_13 rfl (lv_at hl 1 rfl) ?_
    refine lv_iload_n hx hb d_D_fuse_14 rfl (lv_at hl 2 rfl) ?_
    refine lv_if_ge (tgt := 22) hx hb d_D_fuse_15 (by decide) (fun c_15 => ?_) (fun c_15 => ?_)
    · rw [if_pos c_15] at hΦ
      refine lv_iload_n hx hb d_D_fuse_22 rfl (lv_at hl 2 rfl) ?_
      refine dIast 6 X I (by decide) rfl ha d_D_fuse_23 (fun H locs I => ?_)
      refine lv_iconst (v := 1) hx hb d_D_fuse_24 (by decide) ?_
      exact hret _ _ _ _ _ _ I hΦ d_D_fuse_25
    · rw [if_neg c_15] at hΦ
      refine lv_iconst (v := (-1)) hx hb d_D_fuse_18 (by decide) ?_
      refine lv_goto (tgt := 23) hx hb d_D_fuse_19 (by decide) ?_
      refine dIast 6 X I (by decide) rfl ha d_D_fuse_23 (fun H locs I => ?_)
      refine lv_iconst (v := 1) hx hb d_D_fuse_24 (by decide) ?_
      exact hret _ _ _ _ _ _ I hΦ d_D_fuse_25
  · rw [if_pos c_4] at hΦ
    refine lv_iconst (v := (-1)) hx hb d_D_fuse_7 (by decide) ?_
    exact hret _ _ _ _ _ _ I hΦ d_D_fuse_8
def f_D_crash (τ : Mt) (a : Int32) : Int32 × Mt := (if (f_D_isNode τ a) = 0 then ((-1), τ) else (if (am τ 3 a.toNatClampNeg) = 0 then (1, (da (da (da τ 3 a.toNatClampNeg 1) 4 a.toNatClampNeg 0) 6 a.toNatClampNeg (-1))) else (0, (da (da (da τ 3 a.toNatClampNeg 1) 4 a.toNatClampNeg 0) 6 a.toNatClampNeg (-1)))))
set_option maxHeartbeats 4000000 in
set_option maxRecDepth 100000 in
theorem c_D_crash (l : Launch) (D : va_G) (ca : Nat → ClassId) (ad : Nat → Nat) (A : Nat → Prop) (τ : Mt) (a : Int32) : Met l y_D_crash (Cond.code y_D_crash b_D_crash 3 (some .int) :: BASE) (rmK 1) (va_Pc [.ref (ad 0), .int a] (Pre D (tysD ca) A (wD ca ad τ))) (va_Qi (fun r u => (r, u) = f_D_crash τ a) (Pst D A (wD ca ad)) A) 0 0 A := by
  refine enterIx (by decide) (Nat.le_of_ble_eq_true rfl) ?_
  intro Φ hΦ p e s m args below meth c Q X hret I ls hl
  have hx := X.x
  have hb := X.b
  have hl : lv_has ls 3 [(0, .ref (ad 0)), (1, .int a)] := hl
  rw [f_D_crash] at hΦ
  refine lv_iload_n hx hb d_D_crash_0 rfl (lv_at hl 1 rfl) ?_
  refine goIp (wf := wD ca ad) (w := τ) I (runS X I [.int a] (c_D_isNode l D ca ad A τ a) k_D_54 rfl hl rfl ⟨Nat.le_of_ble_eq_true rfl, Nat.le_of_ble_eq_true rfl⟩ (Nat.le_of_ble_eq_true rfl) ⟨Nat.le_refl 0, Nat.le_refl 0⟩ d_D_crash_1) (fun H locs I => ?_)
  refine lv_if_ne (tgt := 9) hx hb d_D_crash_4 (by decide) (fun c_4 => ?_) (fun c_4 => ?_)
  · rw [if_neg c_4] at hΦ
    have ha : vp_in a 2 := isD_in c_4
    refine lv_aload_n hx hb d_D_crash_9 rfl (lv_at hl 0 rfl) ?_
    refine dGetA 3 X I (by decide) (by decide) d_D_crash_10 ?_
    refine lv_iload_n hx hb d_D_crash_13 rfl (lv_at hl 1 rfl) ?_
    refine dZald 3 X I (by decide) ha d_D_crash_14 ?_
    refine lv_if_eq (tgt := 22) hx hb d_D_crash_15 (by decide) (fun c_15 => ?_) (fun c_15 => ?_)
    · rw [if_pos c_15] at hΦ
      refine lv_iconst (v := 1) hx hb d_D_crash_22 (by decide) ?_
      refine lv_istore_n (lv' := [(2, .int 1), (0, .ref (ad 0)), (1, .int a)]) hx hb d_D_crash_23 rfl hl (by decide) rfl (fun ls hl => ?_)
      refine lv_aload_n hx hb d_D_crash_24 rfl (lv_at hl 1 rfl) ?_
      refine dGetA 3 X I (by decide) (by decide) d_D_crash_25 ?_
      refine lv_iload_n hx hb d_D_crash_28 rfl (lv_at hl 2 rfl) ?_
      refine lv_iconst (v := 1) hx hb d_D_crash_29 (by decide) ?_
      refine dZast 3 X I (by decide) ha rfl d_D_crash_30 (fun H locs I => ?_)
      refine lv_aload_n hx hb d_D_crash_31 rfl (lv_at hl 1 rfl) ?_
      refine dGetA 4 X I (by decide) (by decide) d_D_crash_32 ?_
      refine lv_iload_n hx hb d_D_crash_35 rfl (lv_at hl 2 rfl) ?_
      refine lv_iconst (v := 0) hx hb d_D_crash_36 (by decide) ?_
      refine dZast 4 X I (by decide) ha rfl d_D_crash_37 (fun H locs I => ?_)
      refine lv_aload_n hx hb d_D_crash_38 rfl (lv_at hl 1 rfl) ?_
      refine dGetA 6 X I (by decide) (by decide) d_D_crash_39 ?_
      refine lv_iload_n hx hb d_D_crash_42 rfl (lv_at hl 2 rfl) ?_
      refine lv_iconst (v := (-1)) hx hb d_D_crash_43 (by decide) ?_
      refine dIast 6 X I (by decide) rfl ha d_D_crash_44 (fun H locs I => ?_)
      refine lv_iload_n hx hb d_D_crash_45 rfl (lv_at hl 0 rfl) ?_
      exact hret _ _ _ _ _ _ I hΦ d_D_crash_46
    · rw [if_neg c_15] at hΦ
      refine lv_iconst (v := 0) hx hb d_D_crash_18 (by decide) ?_
      refine lv_goto (tgt := 23) hx hb d_D_crash_19 (by decide) ?_
      refine lv_istore_n (lv' := [(2, .int 0), (0, .ref (ad 0)), (1, .int a)]) hx hb d_D_crash_23 rfl hl (by decide) rfl (fun ls hl => ?_)
      refine lv_aload_n hx hb d_D_crash_24 rfl (lv_at hl 1 rfl) ?_
      refine dGetA 3 X I (by decide) (by decide) d_D_crash_25 ?_
      refine lv_iload_n hx hb d_D_crash_28 rfl (lv_at hl 2 rfl) ?_
      refine lv_iconst (v := 1) hx hb d_D_crash_29 (by decide) ?_
      refine dZast 3 X I (by decide) ha rfl d_D_crash_30 (fun H locs I => ?_)
      refine lv_aload_n hx hb d_D_crash_31 rfl (lv_at hl 1 rfl) ?_
      refine dGetA 4 X I (by decide) (by decide) d_D_crash_32 ?_
      refine lv_iload_n hx hb d_D_crash_35 rfl (lv_at hl 2 rfl) ?_
      refine lv_iconst (v := 0) hx hb d_D_crash_36 (by decide) ?_
      refine dZast 4 X I (by decide) ha rfl d_D_crash_37 (fun H locs I => ?_)
      refine lv_aload_n hx hb d_D_crash_38 rfl (lv_at hl 1 rfl) ?_
      refine dGetA 6 X I (by decide) (by decide) d_D_crash_39 ?_
      refine lv_iload_n hx hb d_D_crash_42 rfl (lv_at hl 2 rfl) ?_
      refine lv_iconst (v := (-1)) hx hb d_D_crash_43 (by decide) ?_
      refine dIast 6 X I (by decide) rfl ha d_D_crash_44 (fun H locs I => ?_)
      refine lv_iload_n hx hb d_D_crash_45 rfl (lv_at hl 0 rfl) ?_
      exact hret _ _ _ _ _ _ I hΦ d_D_crash_46
  · rw [if_pos c_4] at hΦ
    refine lv_iconst (v := (-1)) hx hb d_D_crash_7 (by decide) ?_
    exact hret _ _ _ _ _ _ I hΦ d_D_crash_8
def f_D_recover (τ : Mt) (a : Int32) : Int32 × Mt := (if (f_D_isNode τ a) = 0 then ((-1), τ) else (if (am τ 3 a.toNatClampNeg) = 0 then ((-2), τ) else ((am (da (da (da τ 3 a.toNatClampNeg 0) 4 a.toNatClampNeg 0) 6 a.toNatClampNeg (-1)) 2 a.toNatClampNeg), (da (da (da τ 3 a.toNatClampNeg 0) 4 a.toNatClampNeg 0) 6 a.toNatClampNeg (-1)))))
set_option maxHeartbeats 4000000 in
set_option maxRecDepth 100000 in
theorem c_D_recover (l : Launch) (D : va_G) (ca : Nat → ClassId) (ad : Nat → Nat) (A : Nat → Prop) (τ : Mt) (a : Int32) : Met l y_D_recover (Cond.code y_D_recover b_D_recover 2 (some .int) :: BASE) (rmK 1) (va_Pc [.ref (ad 0), .int a] (Pre D (tysD ca) A (wD ca ad τ))) (va_Qi (fun r u => (r, u) = f_D_recover τ a) (Pst D A (wD ca ad)) A) 0 0 A := by
  refine enterIx (by decide) (Nat.le_of_ble_eq_true rfl) ?_
  intro Φ hΦ p e s m args below meth c Q X hret I ls hl
  have hx := X.x
  have hb := X.b
  have hl : lv_has ls 2 [(0, .ref (ad 0)), (1, .int a)] := hl
  rw [f_D_recover] at hΦ
  refine lv_iload_n hx hb d_D_recover_0 rfl (lv_at hl 1 rfl) ?_
  refine goIp (wf := wD ca ad) (w := τ) I (runS X I [.int a] (c_D_isNode l D ca ad A τ a) k_D_54 rfl hl rfl ⟨Nat.le_of_ble_eq_true rfl, Nat.le_of_ble_eq_true rfl⟩ (Nat.le_of_ble_eq_true rfl) ⟨Nat.le_refl 0, Nat.le_refl 0⟩ d_D_recover_1) (fun H locs I => ?_)
  refine lv_if_ne (tgt := 9) hx hb d_D_recover_4 (by decide) (fun c_4 => ?_) (fun c_4 => ?_)
  · rw [if_neg c_4] at hΦ
    have ha : vp_in a 2 := isD_in c_4
    refine lv_aload_n hx hb d_D_recover_9 rfl (lv_at hl 0 rfl) ?_
    refine dGetA 3 X I (by decide) (by decide) d_D_recover_10 ?_
    refine lv_iload_n hx hb d_D_recover_13 rfl (lv_at hl 1 rfl) ?_
    refine dZald 3 X I (by decide) ha d_D_recover_14 ?_
    refine lv_if_ne (tgt := 21) hx hb d_D_recover_15 (by decide) (fun c_15 => ?_) (fun c_15 => ?_)
    · rw [if_neg c_15] at hΦ
      refine lv_aload_n hx hb d_D_recover_21 rfl (lv_at hl 0 rfl) ?_
      refine dGetA 3 X I (by decide) (by decide) d_D_recover_22 ?_
      refine lv_iload_n hx hb d_D_recover_25 rfl (lv_at hl 1 rfl) ?_
      refine lv_iconst (v := 0) hx hb d_D_recover_26 (by decide) ?_
      refine dZast 3 X I (by decide) ha rfl d_D_recover_27 (fun H locs I => ?_)
      refine lv_aload_n hx hb d_D_recover_28 rfl (lv_at hl 0 rfl) ?_
      refine dGetA 4 X I (by decide) (by decide) d_D_recover_29 ?_
      refine lv_iload_n hx hb d_D_recover_32 rfl (lv_at hl 1 rfl) ?_
      refine lv_iconst (v := 0) hx hb d_D_recover_33 (by decide) ?_
      refine dZast 4 X I (by decide) ha rfl d_D_recover_34 (fun H locs I => ?_)
      refine lv_aload_n hx hb d_D_recover_35 rfl (lv_at hl 0 rfl) ?_
      refine dGetA 6 X I (by decide) (by decide) d_D_recover_36 ?_
      refine lv_iload_n hx hb d_D_recover_39 rfl (lv_at hl 1 rfl) ?_
      refine lv_iconst (v := (-1)) hx hb d_D_recover_40 (by decide) ?_
      refine dIast 6 X I (by decide) rfl ha d_D_recover_41 (fun H locs I => ?_)
      refine lv_aload_n hx hb d_D_recover_42 rfl (lv_at hl 0 rfl) ?_
      refine dGetA 2 X I (by decide) (by decide) d_D_recover_43 ?_
      refine lv_iload_n hx hb d_D_recover_46 rfl (lv_at hl 1 rfl) ?_
      refine dIald 2 X I (by decide) rfl ha d_D_recover_47 ?_
      exact hret _ _ _ _ _ _ I hΦ d_D_recover_48
    · rw [if_pos c_15] at hΦ
      refine lv_bipush (v := (-2)) hx hb d_D_recover_18 (by decide) ?_
      exact hret _ _ _ _ _ _ I hΦ d_D_recover_20
  · rw [if_pos c_4] at hΦ
    refine lv_iconst (v := (-1)) hx hb d_D_recover_7 (by decide) ?_
    exact hret _ _ _ _ _ _ I hΦ d_D_recover_8
def f_D_told (τ : Mt) (a : Int32) (b : Int32) : Int32 := (if (f_D_isNode τ a) = 0 then (-1) else (if b = 0 then (am τ 1 a.toNatClampNeg) else (if b = 1 then (am τ 2 a.toNatClampNeg) else (if b = 2 then (if (am τ 3 a.toNatClampNeg) = 0 then 1 else 0) else (if b = 3 then (if (am τ 4 a.toNatClampNeg) = 0 then 0 else 1) else (if b = 4 then (if (am τ 4 a.toNatClampNeg) = 0 then (-1) else (am τ 5 a.toNatClampNeg)) else (if b = 5 then (am τ 6 a.toNatClampNeg) else (if b = 6 then (am τ 7 a.toNatClampNeg) else (-1)))))))))
set_option maxHeartbeats 4000000 in
set_option maxRecDepth 100000 in
theorem c_D_told (l : Launch) (D : va_G) (ca : Nat → ClassId) (ad : Nat → Nat) (A : Nat → Prop) (τ : Mt) (a : Int32) (b : Int32) : Met l y_D_told (Cond.code y_D_told b_D_told 3 (some .int) :: BASE) (rmK 1) (va_Pc [.ref (ad 0), .int a, .int b] (Pre D (tysD ca) A (wD ca ad τ))) (va_Qi (fun r u => (r, u) = (f_D_told τ a b, τ)) (Pst D A (wD ca ad)) A) 0 0 A := by
  refine enterIx (by decide) (Nat.le_of_ble_eq_true rfl) ?_
  intro Φ hΦ p e s m args below meth c Q X hret I ls hl
  have hx := X.x
  have hb := X.b
  have hl : lv_has ls 3 [(0, .ref (ad 0)), (1, .int a), (2, .int b)] := hl
  rw [f_D_told] at hΦ
  refine lv_iload_n hx hb d_D_told_0 rfl (lv_at hl 1 rfl) ?_
  refine goIp (wf := wD ca ad) (w := τ) I (runS X I [.int a] (c_D_isNode l D ca ad A τ a) k_D_54 rfl hl rfl ⟨Nat.le_of_ble_eq_true rfl, Nat.le_of_ble_eq_true rfl⟩ (Nat.le_of_ble_eq_true rfl) ⟨Nat.le_refl 0, Nat.le_refl 0⟩ d_D_told_1) (fun H locs I => ?_)
  refine lv_if_ne (tgt := 9) hx hb d_D_told_4 (by decide) (fun c_4 => ?_) (fun c_4 => ?_)
  · rw [if_neg c_4] at hΦ
    have ha : vp_in a 2 := isD_in c_4
    refine lv_iload_n hx hb d_D_told_9 rfl (lv_at hl 2 rfl) ?_
    by_cases w_0 : b = 0
    · rw [if_pos w_0] at hΦ
      refine lv_tableIn (tgt := 52) hx hb d_D_told_10 (by rw [w_0]; decide) (by rw [w_0]; decide) (by rw [w_0]; rfl) (by decide) ?_
      refine lv_aload_n hx hb d_D_told_52 rfl (lv_at hl 0 rfl) ?_
      refine dGetA 1 X I (by decide) (by decide) d_D_told_53 ?_
      refine lv_iload_n hx hb d_D_told_56 rfl (lv_at hl 1 rfl) ?_
      refine dIald 1 X I (by decide) rfl ha d_D_told_57 ?_
      exact hret _ _ _ _ _ _ I hΦ d_D_told_58
    · rw [if_neg w_0] at hΦ
      by_cases w_1 : b = 1
      · rw [if_pos w_1] at hΦ
        refine lv_tableIn (tgt := 59) hx hb d_D_told_10 (by rw [w_1]; decide) (by rw [w_1]; decide) (by rw [w_1]; rfl) (by decide) ?_
        refine lv_aload_n hx hb d_D_told_59 rfl (lv_at hl 0 rfl) ?_
        refine dGetA 2 X I (by decide) (by decide) d_D_told_60 ?_
        refine lv_iload_n hx hb d_D_told_63 rfl (lv_at hl 1 rfl) ?_
        refine dIald 2 X I (by decide) rfl ha d_D_told_64 ?_
        exact hret _ _ _ _ _ _ I hΦ d_D_told_65
      · rw [if_neg w_1] at hΦ
        by_cases w_2 : b = 2
        · rw [if_pos w_2] at hΦ
          refine lv_tableIn (tgt := 66) hx hb d_D_told_10 (by rw [w_2]; decide) (by rw [w_2]; decide) (by rw [w_2]; rfl) (by decide) ?_
          refine lv_aload_n hx hb d_D_told_66 rfl (lv_at hl 0 rfl) ?_
          refine dGetA 3 X I (by decide) (by decide) d_D_told_67 ?_
          refine lv_iload_n hx hb d_D_told_70 rfl (lv_at hl 1 rfl) ?_
          refine dZald 3 X I (by decide) ha d_D_told_71 ?_
          refine lv_if_eq (tgt := 79) hx hb d_D_told_72 (by decide) (fun c_72 => ?_) (fun c_72 => ?_)
          · rw [if_pos c_72] at hΦ
            refine lv_iconst (v := 1) hx hb d_D_told_79 (by decide) ?_
            exact hret _ _ _ _ _ _ I hΦ d_D_told_80
          · rw [if_neg c_72] at hΦ
            refine lv_iconst (v := 0) hx hb d_D_told_75 (by decide) ?_
            refine lv_goto (tgt := 80) hx hb d_D_told_76 (by decide) ?_
            exact hret _ _ _ _ _ _ I hΦ d_D_told_80
        · rw [if_neg w_2] at hΦ
          by_cases w_3 : b = 3
          · rw [if_pos w_3] at hΦ
            refine lv_tableIn (tgt := 81) hx hb d_D_told_10 (by rw [w_3]; decide) (by rw [w_3]; decide) (by rw [w_3]; rfl) (by decide) ?_
            refine lv_aload_n hx hb d_D_told_81 rfl (lv_at hl 0 rfl) ?_
            refine dGetA 4 X I (by decide) (by decide) d_D_told_82 ?_
            refine lv_iload_n hx hb d_D_told_85 rfl (lv_at hl 1 rfl) ?_
            refine dZald 4 X I (by decide) ha d_D_told_86 ?_
            refine lv_if_eq (tgt := 94) hx hb d_D_told_87 (by decide) (fun c_87 => ?_) (fun c_87 => ?_)
            · rw [if_pos c_87] at hΦ
              refine lv_iconst (v := 0) hx hb d_D_told_94 (by decide) ?_
              exact hret _ _ _ _ _ _ I hΦ d_D_told_95
            · rw [if_neg c_87] at hΦ
              refine lv_iconst (v := 1) hx hb d_D_told_90 (by decide) ?_
              refine lv_goto (tgt := 95) hx hb d_D_told_91 (by decide) ?_
              exact hret _ _ _ _ _ _ I hΦ d_D_told_95
          · rw [if_neg w_3] at hΦ
            by_cases w_4 : b = 4
            · rw [if_pos w_4] at hΦ
              refine lv_tableIn (tgt := 96) hx hb d_D_told_10 (by rw [w_4]; decide) (by rw [w_4]; decide) (by rw [w_4]; rfl) (by decide) ?_
              refine lv_aload_n hx hb d_D_told_96 rfl (lv_at hl 0 rfl) ?_
              refine dGetA 4 X I (by decide) (by decide) d_D_told_97 ?_
              refine lv_iload_n hx hb d_D_told_100 rfl (lv_at hl 1 rfl) ?_
              refine dZald 4 X I (by decide) ha d_D_told_101 ?_
              refine lv_if_eq (tgt := 114) hx hb d_D_told_102 (by decide) (fun c_102 => ?_) (fun c_102 => ?_)
              · rw [if_pos c_102] at hΦ
                refine lv_iconst (v := (-1)) hx hb d_D_told_114 (by decide) ?_
                exact hret _ _ _ _ _ _ I hΦ d_D_told_115
              · rw [if_neg c_102] at hΦ
                refine lv_aload_n hx hb d_D_told_105 rfl (lv_at hl 0 rfl) ?_
                refine dGetA 5 X I (by decide) (by decide) d_D_told_106 ?_
                refine lv_iload_n hx hb d_D_told_109 rfl (lv_at hl 1 rfl) ?_
                refine dIald 5 X I (by decide) rfl ha d_D_told_110 ?_
                refine lv_goto (tgt := 115) hx hb d_D_told_111 (by decide) ?_
                exact hret _ _ _ _ _ _ I hΦ d_D_told_115
            · rw [if_neg w_4] at hΦ
              by_cases w_5 : b = 5
              · rw [if_pos w_5] at hΦ
                refine lv_tableIn (tgt := 116) hx hb d_D_told_10 (by rw [w_5]; decide) (by rw [w_5]; decide) (by rw [w_5]; rfl) (by decide) ?_
                refine lv_aload_n hx hb d_D_told_116 rfl (lv_at hl 0 rfl) ?_
                refine dGetA 6 X I (by decide) (by decide) d_D_told_117 ?_
                refine lv_iload_n hx hb d_D_told_120 rfl (lv_at hl 1 rfl) ?_
                refine dIald 6 X I (by decide) rfl ha d_D_told_121 ?_
                exact hret _ _ _ _ _ _ I hΦ d_D_told_122
              · rw [if_neg w_5] at hΦ
                by_cases w_6 : b = 6
                · rw [if_pos w_6] at hΦ
                  refine lv_tableIn (tgt := 123) hx hb d_D_told_10 (by rw [w_6]; decide) (by rw [w_6]; decide) (by rw [w_6]; rfl) (by decide) ?_
                  refine lv_aload_n hx hb d_D_told_123 rfl (lv_at hl 0 rfl) ?_
                  refine dGetA 7 X I (by decide) (by decide) d_D_told_124 ?_
                  refine lv_iload_n hx hb d_D_told_127 rfl (lv_at hl 1 rfl) ?_
                  refine dIald 7 X I (by decide) rfl ha d_D_told_128 ?_
                  exact hret _ _ _ _ _ _ I hΦ d_D_told_129
                · rw [if_neg w_6] at hΦ
                  refine lv_tableOut (tgt := 130) hx hb d_D_told_10 (sw_out6 w_0 w_1 w_2 w_3 w_4 w_5 w_6) (by decide) ?_
                  refine lv_iconst (v := (-1)) hx hb d_D_told_130 (by decide) ?_
                  exact hret _ _ _ _ _ _ I hΦ d_D_told_131
  · rw [if_pos c_4] at hΦ
    refine lv_iconst (v := (-1)) hx hb d_D_told_7 (by decide) ?_
    exact hret _ _ _ _ _ _ I hΦ d_D_told_8
def f_D_promote_52 (τ : Mt) (a : Int32) (v : Int32) : Int32 × Mt := (if (f_D_becomeTerm τ a v).1 = 0 then ((-4), (f_D_becomeTerm τ a v).2) else (v, (da (da (f_D_becomeTerm τ a v).2 4 a.toNatClampNeg 1) 5 a.toNatClampNeg (-1))))
def f_D_promote (τ : Mt) (a : Int32) : Int32 × Mt := (if (f_D_isNode τ a) = 0 then ((-1), τ) else (if (am τ 3 a.toNatClampNeg) = 0 then (if ((am τ 1 a.toNatClampNeg) - (am τ 1 a.toNatClampNeg) / 2 * 2) = a then (f_D_promote_52 τ a ((am τ 1 a.toNatClampNeg) + 2)) else (f_D_promote_52 τ a ((am τ 1 a.toNatClampNeg) + 1))) else ((-4), τ)))
set_option maxHeartbeats 4000000 in
set_option maxRecDepth 100000 in
theorem c_D_promote (l : Launch) (D : va_G) (ca : Nat → ClassId) (ad : Nat → Nat) (A : Nat → Prop) (τ : Mt) (a : Int32) : Met l y_D_promote (Cond.code y_D_promote b_D_promote 3 (some .int) :: BASE) (rmK 2) (va_Pc [.ref (ad 0), .int a] (Pre D (tysD ca) A (wD ca ad τ))) (va_Qi (fun r u => (r, u) = f_D_promote τ a) (Pst D A (wD ca ad)) A) 0 0 A := by
  refine enterIx (by decide) (Nat.le_of_ble_eq_true rfl) ?_
  intro Φ hΦ p e s m args below meth c Q X hret I ls hl
  have hx := X.x
  have hb := X.b
  have hl : lv_has ls 3 [(0, .ref (ad 0)), (1, .int a)] := hl
  have blk_52 : ∀ (τ : Mt) (v : Int32) (H : Heap) (locs : List Loc) (ls : Array Slot), In D A s.heap (wD ca ad τ) H locs → lv_has ls 3 [(0, .ref (ad 0)), (1, .int a)] → Φ (f_D_promote_52 τ a v) → (vp_in a 2) → W p l e (rmK 2) s m args below meth c H locs 0 0 Q (F0 m 52 ls [.int v]) := by
    intro τ v H locs ls I hl hΦ ha
    rw [f_D_promote_52] at hΦ
    refine lv_istore_n (lv' := [(2, .int v), (0, .ref (ad 0)), (1, .int a)]) hx hb d_D_promote_52 rfl hl (by decide) rfl (fun ls hl => ?_)
    refine lv_aload_n hx hb d_D_promote_53 rfl (lv_at hl 1 rfl) ?_
    refine lv_iload_n hx hb d_D_promote_54 rfl (lv_at hl 2 rfl) ?_
    refine lv_iload_n hx hb d_D_promote_55 rfl (lv_at hl 0 rfl) ?_
    refine goIf (wf := wD ca ad) I (rD X I [.int a, .int v] (c_D_becomeTerm l D ca ad A τ a v ha) k_D_69 rfl hl rfl ⟨Nat.le_of_ble_eq_true rfl, Nat.le_of_ble_eq_true rfl⟩ (Nat.le_of_ble_eq_true rfl) ⟨Nat.le_refl 0, Nat.le_refl 0⟩ d_D_promote_56) (fun H locs I => ?_)
    refine lv_if_ne (tgt := 65) hx hb d_D_promote_59 (by decide) (fun c_59 => ?_) (fun c_59 => ?_)
    · rw [if_neg c_59] at hΦ
      refine lv_aload_n hx hb d_D_promote_65 rfl (lv_at hl 1 rfl) ?_
      refine dGetA 4 X I (by decide) (by decide) d_D_promote_66 ?_
      refine lv_iload_n hx hb d_D_promote_69 rfl (lv_at hl 2 rfl) ?_
      refine lv_iconst (v := 1) hx hb d_D_promote_70 (by decide) ?_
      refine dZast 4 X I (by decide) ha rfl d_D_promote_71 (fun H locs I => ?_)
      refine lv_aload_n hx hb d_D_promote_72 rfl (lv_at hl 1 rfl) ?_
      refine dGetA 5 X I (by decide) (by decide) d_D_promote_73 ?_
      refine lv_iload_n hx hb d_D_promote_76 rfl (lv_at hl 2 rfl) ?_
      refine lv_iconst (v := (-1)) hx hb d_D_promote_77 (by decide) ?_
      refine dIast 5 X I (by decide) rfl ha d_D_promote_78 (fun H locs I => ?_)
      refine lv_iload_n hx hb d_D_promote_79 rfl (lv_at hl 0 rfl) ?_
      exact hret _ _ _ _ _ _ I hΦ d_D_promote_80
    · rw [if_pos c_59] at hΦ
      refine lv_bipush (v := (-4)) hx hb d_D_promote_62 (by decide) ?_
      exact hret _ _ _ _ _ _ I hΦ d_D_promote_64
  rw [f_D_promote] at hΦ
  refine lv_iload_n hx hb d_D_promote_0 rfl (lv_at hl 1 rfl) ?_
  refine goIp (wf := wD ca ad) (w := τ) I (runS X I [.int a] (c_D_isNode l D ca ad A τ a) k_D_54 rfl hl rfl ⟨Nat.le_of_ble_eq_true rfl, Nat.le_of_ble_eq_true rfl⟩ (Nat.le_of_ble_eq_true rfl) ⟨Nat.le_refl 0, Nat.le_refl 0⟩ d_D_promote_1) (fun H locs I => ?_)
  refine lv_if_ne (tgt := 9) hx hb d_D_promote_4 (by decide) (fun c_4 => ?_) (fun c_4 => ?_)
  · rw [if_neg c_4] at hΦ
    have ha : vp_in a 2 := isD_in c_4
    refine lv_aload_n hx hb d_D_promote_9 rfl (lv_at hl 0 rfl) ?_
    refine dGetA 3 X I (by decide) (by decide) d_D_promote_10 ?_
    refine lv_iload_n hx hb d_D_promote_13 rfl (lv_at hl 1 rfl) ?_
    refine dZald 3 X I (by decide) ha d_D_promote_14 ?_
    refine lv_if_eq (tgt := 21) hx hb d_D_promote_15 (by decide) (fun c_15 => ?_) (fun c_15 => ?_)
    · rw [if_pos c_15] at hΦ
      refine lv_aload_n hx hb d_D_promote_21 rfl (lv_at hl 0 rfl) ?_
      refine dGetA 1 X I (by decide) (by decide) d_D_promote_22 ?_
      refine lv_iload_n hx hb d_D_promote_25 rfl (lv_at hl 1 rfl) ?_
      refine dIald 1 X I (by decide) rfl ha d_D_promote_26 ?_
      refine lv_iconst (v := 2) hx hb d_D_promote_27 (by decide) ?_
      refine lv_irem hx hb d_D_promote_28 (by decide) ?_
      refine lv_iload_n hx hb d_D_promote_29 rfl (lv_at hl 1 rfl) ?_
      refine lv_icmp_ne (tgt := 44) hx hb d_D_promote_30 (by decide) (fun c_30 => ?_) (fun c_30 => ?_)
      · rw [if_neg c_30] at hΦ
        refine lv_aload_n hx hb d_D_promote_44 rfl (lv_at hl 0 rfl) ?_
        refine dGetA 1 X I (by decide) (by decide) d_D_promote_45 ?_
        refine lv_iload_n hx hb d_D_promote_48 rfl (lv_at hl 1 rfl) ?_
        refine dIald 1 X I (by decide) rfl ha d_D_promote_49 ?_
        refine lv_iconst (v := 1) hx hb d_D_promote_50 (by decide) ?_
        refine lv_iadd hx hb d_D_promote_51 ?_
        exact blk_52 τ ((am τ 1 a.toNatClampNeg) + 1) _ _ _ I (lv_sub hl [0, 1] rfl) hΦ ha
      · rw [if_pos c_30] at hΦ
        refine lv_aload_n hx hb d_D_promote_33 rfl (lv_at hl 0 rfl) ?_
        refine dGetA 1 X I (by decide) (by decide) d_D_promote_34 ?_
        refine lv_iload_n hx hb d_D_promote_37 rfl (lv_at hl 1 rfl) ?_
        refine dIald 1 X I (by decide) rfl ha d_D_promote_38 ?_
        refine lv_iconst (v := 2) hx hb d_D_promote_39 (by decide) ?_
        refine lv_iadd hx hb d_D_promote_40 ?_
        refine lv_goto (tgt := 52) hx hb d_D_promote_41 (by decide) ?_
        exact blk_52 τ ((am τ 1 a.toNatClampNeg) + 2) _ _ _ I (lv_sub hl [0, 1] rfl) hΦ ha
    · rw [if_neg c_15] at hΦ
      refine lv_bipush (v := (-4)) hx hb d_D_promote_18 (by decide) ?_
      exact hret _ _ _ _ _ _ I hΦ d_D_promote_20
  · rw [if_pos c_4] at hΦ
    refine lv_iconst (v := (-1)) hx hb d_D_promote_7 (by decide) ?_
    exact hret _ _ _ _ _ _ I hΦ d_D_promote_8
def f_D_rejoin (τ : Mt) (a : Int32) : Int32 × Mt := (if (f_D_isNode τ a) = 0 then ((-1), τ) else (if (am τ 3 a.toNatClampNeg) = 0 then (if (am τ 4 a.toNatClampNeg) = 0 then (if (mz τ) = 16 then ((-3), τ) else (1, (f_D_send τ a 3 (am τ 2 a.toNatClampNeg)))) else ((-2), τ)) else ((-4), τ)))
set_option maxHeartbeats 4000000 in
set_option maxRecDepth 100000 in
theorem c_D_rejoin (l : Launch) (D : va_G) (ca : Nat → ClassId) (ad : Nat → Nat) (A : Nat → Prop) (τ : Mt) (a : Int32) (hZ : Dz τ) : Met l y_D_rejoin (Cond.code y_D_rejoin b_D_rejoin 2 (some .int) :: BASE) (rmK 1) (va_Pc [.ref (ad 0), .int a] (Pre D (tysD ca) A (wD ca ad τ))) (va_Qi (fun r u => (r, u) = f_D_rejoin τ a) (Pst D A (wD ca ad)) A) 0 0 A := by
  refine enterIx (by decide) (Nat.le_of_ble_eq_true rfl) ?_
  intro Φ hΦ p e s m args below meth c Q X hret I ls hl
  have hx := X.x
  have hb := X.b
  have hl : lv_has ls 2 [(0, .ref (ad 0)), (1, .int a)] := hl
  rw [f_D_rejoin] at hΦ
  refine lv_iload_n hx hb d_D_rejoin_0 rfl (lv_at hl 1 rfl) ?_
  refine goIp (wf := wD ca ad) (w := τ) I (runS X I [.int a] (c_D_isNode l D ca ad A τ a) k_D_54 rfl hl rfl ⟨Nat.le_of_ble_eq_true rfl, Nat.le_of_ble_eq_true rfl⟩ (Nat.le_of_ble_eq_true rfl) ⟨Nat.le_refl 0, Nat.le_refl 0⟩ d_D_rejoin_1) (fun H locs I => ?_)
  refine lv_if_ne (tgt := 9) hx hb d_D_rejoin_4 (by decide) (fun c_4 => ?_) (fun c_4 => ?_)
  · rw [if_neg c_4] at hΦ
    have ha : vp_in a 2 := isD_in c_4
    refine lv_aload_n hx hb d_D_rejoin_9 rfl (lv_at hl 0 rfl) ?_
    refine dGetA 3 X I (by decide) (by decide) d_D_rejoin_10 ?_
    refine lv_iload_n hx hb d_D_rejoin_13 rfl (lv_at hl 1 rfl) ?_
    refine dZald 3 X I (by decide) ha d_D_rejoin_14 ?_
    refine lv_if_eq (tgt := 21) hx hb d_D_rejoin_15 (by decide) (fun c_15 => ?_) (fun c_15 => ?_)
    · rw [if_pos c_15] at hΦ
      refine lv_aload_n hx hb d_D_rejoin_21 rfl (lv_at hl 0 rfl) ?_
      refine dGetA 4 X I (by decide) (by decide) d_D_rejoin_22 ?_
      refine lv_iload_n hx hb d_D_rejoin_25 rfl (lv_at hl 1 rfl) ?_
      refine dZald 4 X I (by decide) ha d_D_rejoin_26 ?_
      refine lv_if_eq (tgt := 33) hx hb d_D_rejoin_27 (by decide) (fun c_27 => ?_) (fun c_27 => ?_)
      · rw [if_pos c_27] at hΦ
        refine lv_aload_n hx hb d_D_rejoin_33 rfl (lv_at hl 0 rfl) ?_
        refine dGetZ X I d_D_rejoin_34 ?_
        refine lv_bipush (v := 16) hx hb d_D_rejoin_37 (by decide) ?_
        refine lv_icmp_ne (tgt := 45) hx hb d_D_rejoin_39 (by decide) (fun c_39 => ?_) (fun c_39 => ?_)
        · rw [if_neg c_39] at hΦ
          refine lv_aload_n hx hb d_D_rejoin_45 rfl (lv_at hl 0 rfl) ?_
          refine lv_iload_n hx hb d_D_rejoin_46 rfl (lv_at hl 1 rfl) ?_
          refine lv_iconst (v := 3) hx hb d_D_rejoin_47 (by decide) ?_
          refine lv_aload_n hx hb d_D_rejoin_48 rfl (lv_at hl 0 rfl) ?_
          refine dGetA 2 X I (by decide) (by decide) d_D_rejoin_49 ?_
          refine lv_iload_n hx hb d_D_rejoin_52 rfl (lv_at hl 1 rfl) ?_
          refine dIald 2 X I (by decide) rfl ha d_D_rejoin_53 ?_
          refine goVf (wf := wD ca ad) I (rD X I [.int a, .int 3, .int (am τ 2 a.toNatClampNeg)] (c_D_send l D ca ad A τ a 3 (am τ 2 a.toNatClampNeg) hZ ha (fun h => absurd h (by decide))) k_D_61 rfl hl rfl ⟨Nat.le_of_ble_eq_true rfl, Nat.le_of_ble_eq_true rfl⟩ (Nat.le_of_ble_eq_true rfl) ⟨Nat.le_refl 0, Nat.le_refl 0⟩ d_D_rejoin_54) (fun H locs I => ?_)
          refine lv_iconst (v := 1) hx hb d_D_rejoin_57 (by decide) ?_
          exact hret _ _ _ _ _ _ I hΦ d_D_rejoin_58
        · rw [if_pos c_39] at hΦ
          refine lv_bipush (v := (-3)) hx hb d_D_rejoin_42 (by decide) ?_
          exact hret _ _ _ _ _ _ I hΦ d_D_rejoin_44
      · rw [if_neg c_27] at hΦ
        refine lv_bipush (v := (-2)) hx hb d_D_rejoin_30 (by decide) ?_
        exact hret _ _ _ _ _ _ I hΦ d_D_rejoin_32
    · rw [if_neg c_15] at hΦ
      refine lv_bipush (v := (-4)) hx hb d_D_rejoin_18 (by decide) ?_
      exact hret _ _ _ _ _ _ I hΦ d_D_rejoin_20
  · rw [if_pos c_4] at hΦ
    refine lv_iconst (v := (-1)) hx hb d_D_rejoin_7 (by decide) ?_
    exact hret _ _ _ _ _ _ I hΦ d_D_rejoin_8
def f_D_entry (τ : Mt) (a : Int32) (b : Int32) (x : Int32) : Int32 := (if (f_D_isNode τ a) = 0 then 0 else (if b < 0 then 0 else (if b < (am τ 2 a.toNatClampNeg) then (if x = 0 then (am τ 8 ((64 * a) + b).toNatClampNeg) else (if x = 1 then (am τ 9 ((64 * a) + b).toNatClampNeg) else (if x = 2 then (am τ 10 ((64 * a) + b).toNatClampNeg) else 0))) else 0)))
set_option maxHeartbeats 4000000 in
set_option maxRecDepth 100000 in
theorem c_D_entry (l : Launch) (D : va_G) (ca : Nat → ClassId) (ad : Nat → Nat) (A : Nat → Prop) (τ : Mt) (a : Int32) (b : Int32) (x : Int32) (hB : Ds τ) : Met l y_D_entry (Cond.code y_D_entry b_D_entry 5 (some .int) :: BASE) (rmK 1) (va_Pc [.ref (ad 0), .int a, .int b, .int x] (Pre D (tysD ca) A (wD ca ad τ))) (va_Qi (fun r u => (r, u) = (f_D_entry τ a b x, τ)) (Pst D A (wD ca ad)) A) 0 0 A := by
  refine enterIx (by decide) (Nat.le_of_ble_eq_true rfl) ?_
  intro Φ hΦ p e s m args below meth c Q X hret I ls hl
  have hx := X.x
  have hb := X.b
  have hl : lv_has ls 5 [(0, .ref (ad 0)), (1, .int a), (2, .int b), (3, .int x)] := hl
  rw [f_D_entry] at hΦ
  refine lv_iload_n hx hb d_D_entry_0 rfl (lv_at hl 1 rfl) ?_
  refine goIp (wf := wD ca ad) (w := τ) I (runS X I [.int a] (c_D_isNode l D ca ad A τ a) k_D_54 rfl hl rfl ⟨Nat.le_of_ble_eq_true rfl, Nat.le_of_ble_eq_true rfl⟩ (Nat.le_of_ble_eq_true rfl) ⟨Nat.le_refl 0, Nat.le_refl 0⟩ d_D_entry_1) (fun H locs I => ?_)
  refine lv_if_eq (tgt := 21) hx hb d_D_entry_4 (by decide) (fun c_4 => ?_) (fun c_4 => ?_)
  · rw [if_pos c_4] at hΦ
    refine lv_iconst (v := 0) hx hb d_D_entry_21 (by decide) ?_
    exact hret _ _ _ _ _ _ I hΦ d_D_entry_22
  · rw [if_neg c_4] at hΦ
    have ha : vp_in a 2 := isD_in c_4
    refine lv_iload_n hx hb d_D_entry_7 rfl (lv_at hl 2 rfl) ?_
    refine lv_if_lt (tgt := 21) hx hb d_D_entry_8 (by decide) (fun c_8 => ?_) (fun c_8 => ?_)
    · rw [if_pos c_8] at hΦ
      refine lv_iconst (v := 0) hx hb d_D_entry_21 (by decide) ?_
      exact hret _ _ _ _ _ _ I hΦ d_D_entry_22
    · rw [if_neg c_8] at hΦ
      refine lv_iload_n hx hb d_D_entry_11 rfl (lv_at hl 2 rfl) ?_
      refine lv_aload_n hx hb d_D_entry_12 rfl (lv_at hl 0 rfl) ?_
      refine dGetA 2 X I (by decide) (by decide) d_D_entry_13 ?_
      refine lv_iload_n hx hb d_D_entry_16 rfl (lv_at hl 1 rfl) ?_
      refine dIald 2 X I (by decide) rfl ha d_D_entry_17 ?_
      refine lv_icmp_lt (tgt := 23) hx hb d_D_entry_18 (by decide) (fun c_18 => ?_) (fun c_18 => ?_)
      · rw [if_pos c_18] at hΦ
        have hq : vp_in (64 * a + b) 128 := by
          have h1 := c_8
          have h2 := c_18
          have h3 := hB.2 _ (vlt ha)
          rw [n_lt, n_0] at h1
          rw [n_lt] at h2
          exact v64 ha (vi ⟨by omega, by omega⟩)
        refine lv_bipush (v := 64) hx hb d_D_entry_23 (by decide) ?_
        refine lv_iload_n hx hb d_D_entry_25 rfl (lv_at hl 1 rfl) ?_
        refine lv_imul hx hb d_D_entry_26 ?_
        refine lv_iload_n hx hb d_D_entry_27 rfl (lv_at hl 2 rfl) ?_
        refine lv_iadd hx hb d_D_entry_28 ?_
        refine lv_istore (lv' := [(4, .int ((64 * a) + b)), (0, .ref (ad 0)), (1, .int a), (2, .int b), (3, .int x)]) hx hb d_D_entry_29 hl (by decide) rfl (fun ls hl => ?_)
        refine lv_iload_n hx hb d_D_entry_31 rfl (lv_at hl 4 rfl) ?_
        refine lv_if_ne (tgt := 45) hx hb d_D_entry_32 (by decide) (fun c_32 => ?_) (fun c_32 => ?_)
        · rw [if_neg c_32] at hΦ
          refine lv_iload_n hx hb d_D_entry_45 rfl (lv_at hl 4 rfl) ?_
          refine lv_iconst (v := 1) hx hb d_D_entry_46 (by decide) ?_
          refine lv_icmp_ne (tgt := 60) hx hb d_D_entry_47 (by decide) (fun c_47 => ?_) (fun c_47 => ?_)
          · rw [if_neg c_47] at hΦ
            refine lv_iload_n hx hb d_D_entry_60 rfl (lv_at hl 4 rfl) ?_
            refine lv_iconst (v := 2) hx hb d_D_entry_61 (by decide) ?_
            refine lv_icmp_ne (tgt := 75) hx hb d_D_entry_62 (by decide) (fun c_62 => ?_) (fun c_62 => ?_)
            · rw [if_neg c_62] at hΦ
              refine lv_iconst (v := 0) hx hb d_D_entry_75 (by decide) ?_
              exact hret _ _ _ _ _ _ I hΦ d_D_entry_76
            · rw [if_pos c_62] at hΦ
              refine lv_aload_n hx hb d_D_entry_65 rfl (lv_at hl 1 rfl) ?_
              refine dGetA 10 X I (by decide) (by decide) d_D_entry_66 ?_
              refine lv_iload hx hb d_D_entry_69 (lv_at hl 0 rfl) ?_
              refine dIald 10 X I (by decide) rfl hq d_D_entry_71 ?_
              refine lv_goto (tgt := 76) hx hb d_D_entry_72 (by decide) ?_
              exact hret _ _ _ _ _ _ I hΦ d_D_entry_76
          · rw [if_pos c_47] at hΦ
            refine lv_aload_n hx hb d_D_entry_50 rfl (lv_at hl 1 rfl) ?_
            refine dGetA 9 X I (by decide) (by decide) d_D_entry_51 ?_
            refine lv_iload hx hb d_D_entry_54 (lv_at hl 0 rfl) ?_
            refine dIald 9 X I (by decide) rfl hq d_D_entry_56 ?_
            refine lv_goto (tgt := 76) hx hb d_D_entry_57 (by decide) ?_
            exact hret _ _ _ _ _ _ I hΦ d_D_entry_76
        · rw [if_pos c_32] at hΦ
          refine lv_aload_n hx hb d_D_entry_35 rfl (lv_at hl 1 rfl) ?_
          refine dGetA 8 X I (by decide) (by decide) d_D_entry_36 ?_
          refine lv_iload hx hb d_D_entry_39 (lv_at hl 0 rfl) ?_
          refine dIald 8 X I (by decide) rfl hq d_D_entry_41 ?_
          refine lv_goto (tgt := 76) hx hb d_D_entry_42 (by decide) ?_
          exact hret _ _ _ _ _ _ I hΦ d_D_entry_76
      · rw [if_neg c_18] at hΦ
        refine lv_iconst (v := 0) hx hb d_D_entry_21 (by decide) ?_
        exact hret _ _ _ _ _ _ I hΦ d_D_entry_22
def f_D_message (τ : Mt) (a : Int32) (b : Int32) : Int32 := (if a < 0 then (-1) else (if (mz τ) ≤ a then (-1) else (if b < 0 then (-1) else (if b ≤ 3 then (am τ 11 ((9 * a) + b).toNatClampNeg) else (-1)))))
set_option maxHeartbeats 4000000 in
set_option maxRecDepth 100000 in
theorem c_D_message (l : Launch) (D : va_G) (ca : Nat → ClassId) (ad : Nat → Nat) (A : Nat → Prop) (τ : Mt) (a : Int32) (b : Int32) (hZ : Dz τ) : Met l y_D_message (Cond.code y_D_message b_D_message 3 (some .int) :: BASE) (rmK 0) (va_Pc [.ref (ad 0), .int a, .int b] (Pre D (tysD ca) A (wD ca ad τ))) (va_Qi (fun r u => (r, u) = (f_D_message τ a b, τ)) (Pst D A (wD ca ad)) A) 0 0 A := by
  refine enterIx (by decide) (Nat.le_of_ble_eq_true rfl) ?_
  intro Φ hΦ p e s m args below meth c Q X hret I ls hl
  have hx := X.x
  have hb := X.b
  have hl : lv_has ls 3 [(0, .ref (ad 0)), (1, .int a), (2, .int b)] := hl
  rw [f_D_message] at hΦ
  refine lv_iload_n hx hb d_D_message_0 rfl (lv_at hl 1 rfl) ?_
  refine lv_if_lt (tgt := 21) hx hb d_D_message_1 (by decide) (fun c_1 => ?_) (fun c_1 => ?_)
  · rw [if_pos c_1] at hΦ
    refine lv_iconst (v := (-1)) hx hb d_D_message_21 (by decide) ?_
    exact hret _ _ _ _ _ _ I hΦ d_D_message_22
  · rw [if_neg c_1] at hΦ
    refine lv_iload_n hx hb d_D_message_4 rfl (lv_at hl 1 rfl) ?_
    refine lv_aload_n hx hb d_D_message_5 rfl (lv_at hl 0 rfl) ?_
    refine dGetZ X I d_D_message_6 ?_
    refine lv_icmp_ge (tgt := 21) hx hb d_D_message_9 (by decide) (fun c_9 => ?_) (fun c_9 => ?_)
    · rw [if_pos c_9] at hΦ
      refine lv_iconst (v := (-1)) hx hb d_D_message_21 (by decide) ?_
      exact hret _ _ _ _ _ _ I hΦ d_D_message_22
    · rw [if_neg c_9] at hΦ
      refine lv_iload_n hx hb d_D_message_12 rfl (lv_at hl 2 rfl) ?_
      refine lv_if_lt (tgt := 21) hx hb d_D_message_13 (by decide) (fun c_13 => ?_) (fun c_13 => ?_)
      · rw [if_pos c_13] at hΦ
        refine lv_iconst (v := (-1)) hx hb d_D_message_21 (by decide) ?_
        exact hret _ _ _ _ _ _ I hΦ d_D_message_22
      · rw [if_neg c_13] at hΦ
        refine lv_iload_n hx hb d_D_message_16 rfl (lv_at hl 2 rfl) ?_
        refine lv_iconst (v := 3) hx hb d_D_message_17 (by decide) ?_
        refine lv_icmp_le (tgt := 23) hx hb d_D_message_18 (by decide) (fun c_18 => ?_) (fun c_18 => ?_)
        · rw [if_pos c_18] at hΦ
          have hq : vp_in (9 * a + b) 144 := by
            have h1 := c_1
            have h2 := c_9
            have h3 := c_13
            have h4 := c_18
            have h5 : 0 ≤ (mz τ).toInt ∧ (mz τ).toInt ≤ 16 := hZ
            rw [n_lt, n_0] at h1 h3
            rw [n_le] at h2
            rw [n_le, n_3] at h4
            have e1 : (9 * a).toInt = 9 * a.toInt := by rw [n_mul (by rw [n_9]; omega) (by rw [n_9]; omega), n_9]
            exact vi (by rw [n_add (by rw [e1]; omega) (by rw [e1]; omega), e1]; omega)
          refine lv_aload_n hx hb d_D_message_23 rfl (lv_at hl 0 rfl) ?_
          refine dGetA 11 X I (by decide) (by decide) d_D_message_24 ?_
          refine lv_bipush (v := 9) hx hb d_D_message_27 (by decide) ?_
          refine lv_iload_n hx hb d_D_message_29 rfl (lv_at hl 1 rfl) ?_
          refine lv_imul hx hb d_D_message_30 ?_
          refine lv_iload_n hx hb d_D_message_31 rfl (lv_at hl 2 rfl) ?_
          refine lv_iadd hx hb d_D_message_32 ?_
          refine dIald 11 X I (by decide) rfl hq d_D_message_33 ?_
          exact hret _ _ _ _ _ _ I hΦ d_D_message_34
        · rw [if_neg c_18] at hΦ
          refine lv_iconst (v := (-1)) hx hb d_D_message_21 (by decide) ?_
          exact hret _ _ _ _ _ _ I hΦ d_D_message_22
def f_D_same_2 : Nat → Mt → Int32 → Int32
  | 0, τ, _ => 0
  | fuel + 1, τ, v1 => (if (am τ 2 (0 : Int32).toNatClampNeg) ≤ v1 then v1 else (if (am τ 2 (1 : Int32).toNatClampNeg) ≤ v1 then v1 else (if (am τ 8 v1.toNatClampNeg) = (am τ 8 (64 + v1).toNatClampNeg) then (if (am τ 9 v1.toNatClampNeg) = (am τ 9 (64 + v1).toNatClampNeg) then (if (am τ 10 v1.toNatClampNeg) = (am τ 10 (64 + v1).toNatClampNeg) then (f_D_same_2 fuel τ (v1 + 1)) else v1) else v1) else v1)))
def f_D_same (τ : Mt) : Int32 := (f_D_same_2 66 τ 0)
set_option maxHeartbeats 4000000 in
set_option maxRecDepth 100000 in
theorem c_D_same (l : Launch) (D : va_G) (ca : Nat → ClassId) (ad : Nat → Nat) (A : Nat → Prop) (τ : Mt) (hB : Ds τ) : Met l y_D_same (Cond.code y_D_same b_D_same 2 (some .int) :: BASE) (rmK 0) (va_Pc [.ref (ad 0)] (Pre D (tysD ca) A (wD ca ad τ))) (va_Qi (fun r u => (r, u) = (f_D_same τ, τ)) (Pst D A (wD ca ad)) A) 0 0 A := by
  refine enterIx (by decide) (Nat.le_of_ble_eq_true rfl) ?_
  intro Φ hΦ p e s m args below meth c Q X hret I ls hl
  have hx := X.x
  have hb := X.b
  have hl : lv_has ls 2 [(0, .ref (ad 0))] := hl
  have blk_2 : ∀ (fuel : Nat) (τ : Mt) (v1 : Int32) (H : Heap) (locs : List Loc) (ls : Array Slot), In D A s.heap (wD ca ad τ) H locs → lv_has ls 2 [(0, .ref (ad 0)), (1, .int v1)] → Φ (f_D_same_2 fuel τ v1, τ) → (Ds τ) → (0 ≤ v1.toInt ∧ v1.toInt ≤ 64) → (64 - v1.toInt < fuel) → W p l e (rmK 0) s m args below meth c H locs 0 0 Q (F0 m 2 ls []) := by
    intro fuel
    induction fuel with
    | zero => intro τ v1 H locs ls I hl hΦ hB h1 hf; exact absurd hf (by omega)
    | succ fuel ih =>
      intro τ v1 H locs ls I hl hΦ hB h1 hf
      rw [f_D_same_2] at hΦ
      refine lv_iload_n hx hb d_D_same_2 rfl (lv_at hl 1 rfl) ?_
      refine lv_aload_n hx hb d_D_same_3 rfl (lv_at hl 0 rfl) ?_
      refine dGetA 2 X I (by decide) (by decide) d_D_same_4 ?_
      refine lv_iconst (v := 0) hx hb d_D_same_7 (by decide) ?_
      refine dIald 2 X I (by decide) rfl (vi (by decide)) d_D_same_8 ?_
      refine lv_icmp_ge (tgt := 82) hx hb d_D_same_9 (by decide) (fun c_9 => ?_) (fun c_9 => ?_)
      · rw [if_pos c_9] at hΦ
        refine lv_iload_n hx hb d_D_same_82 rfl (lv_at hl 1 rfl) ?_
        exact hret _ _ _ _ _ _ I hΦ d_D_same_83
      · rw [if_neg c_9] at hΦ
        have hlt : v1.toInt < 64 := by
          have h1 := c_9
          have h2 := hB.2 0 (by decide)
          rw [n_le] at h1
          have h3 : ¬ (am τ 2 0).toInt ≤ v1.toInt := h1
          omega
        have k1 : vp_in v1 128 := vi ⟨h1.1, by omega⟩
        have k2 : vp_in (64 + v1) 128 := vi (by rw [n_add (by rw [n_64]; omega) (by rw [n_64]; omega), n_64]; omega)
        have e1 : (v1 + 1).toInt = v1.toInt + 1 := by rw [n_add (by rw [n_1]; omega) (by rw [n_1]; omega), n_1]
        refine lv_iload_n hx hb d_D_same_12 rfl (lv_at hl 1 rfl) ?_
        refine lv_aload_n hx hb d_D_same_13 rfl (lv_at hl 0 rfl) ?_
        refine dGetA 2 X I (by decide) (by decide) d_D_same_14 ?_
        refine lv_iconst (v := 1) hx hb d_D_same_17 (by decide) ?_
        refine dIald 2 X I (by decide) rfl (vi (by decide)) d_D_same_18 ?_
        refine lv_icmp_ge (tgt := 82) hx hb d_D_same_19 (by decide) (fun c_19 => ?_) (fun c_19 => ?_)
        · rw [if_pos c_19] at hΦ
          refine lv_iload_n hx hb d_D_same_82 rfl (lv_at hl 1 rfl) ?_
          exact hret _ _ _ _ _ _ I hΦ d_D_same_83
        · rw [if_neg c_19] at hΦ
          refine lv_aload_n hx hb d_D_same_22 rfl (lv_at hl 0 rfl) ?_
          refine dGetA 8 X I (by decide) (by decide) d_D_same_23 ?_
          refine lv_iload_n hx hb d_D_same_26 rfl (lv_at hl 1 rfl) ?_
          refine dIald 8 X I (by decide) rfl k1 d_D_same_27 ?_
          refine lv_aload_n hx hb d_D_same_28 rfl (lv_at hl 0 rfl) ?_
          refine dGetA 8 X I (by decide) (by decide) d_D_same_29 ?_
          refine lv_bipush (v := 64) hx hb d_D_same_32 (by decide) ?_
          refine lv_iload_n hx hb d_D_same_34 rfl (lv_at hl 1 rfl) ?_
          refine lv_iadd hx hb d_D_same_35 ?_
          refine dIald 8 X I (by decide) rfl k2 d_D_same_36 ?_
          refine lv_icmp_ne (tgt := 82) hx hb d_D_same_37 (by decide) (fun c_37 => ?_) (fun c_37 => ?_)
          · rw [if_neg c_37] at hΦ
            refine lv_iload_n hx hb d_D_same_82 rfl (lv_at hl 1 rfl) ?_
            exact hret _ _ _ _ _ _ I hΦ d_D_same_83
          · rw [if_pos c_37] at hΦ
            refine lv_aload_n hx hb d_D_same_40 rfl (lv_at hl 0 rfl) ?_
            refine dGetA 9 X I (by decide) (by decide) d_D_same_41 ?_
            refine lv_iload_n hx hb d_D_same_44 rfl (lv_at hl 1 rfl) ?_
            refine dIald 9 X I (by decide) rfl k1 d_D_same_45 ?_
            refine lv_aload_n hx hb d_D_same_46 rfl (lv_at hl 0 rfl) ?_
            refine dGetA 9 X I (by decide) (by decide) d_D_same_47 ?_
            refine lv_bipush (v := 64) hx hb d_D_same_50 (by decide) ?_
            refine lv_iload_n hx hb d_D_same_52 rfl (lv_at hl 1 rfl) ?_
            refine lv_iadd hx hb d_D_same_53 ?_
            refine dIald 9 X I (by decide) rfl k2 d_D_same_54 ?_
            refine lv_icmp_ne (tgt := 82) hx hb d_D_same_55 (by decide) (fun c_55 => ?_) (fun c_55 => ?_)
            · rw [if_neg c_55] at hΦ
              refine lv_iload_n hx hb d_D_same_82 rfl (lv_at hl 1 rfl) ?_
              exact hret _ _ _ _ _ _ I hΦ d_D_same_83
            · rw [if_pos c_55] at hΦ
              refine lv_aload_n hx hb d_D_same_58 rfl (lv_at hl 0 rfl) ?_
              refine dGetA 10 X I (by decide) (by decide) d_D_same_59 ?_
              refine lv_iload_n hx hb d_D_same_62 rfl (lv_at hl 1 rfl) ?_
              refine dIald 10 X I (by decide) rfl k1 d_D_same_63 ?_
              refine lv_aload_n hx hb d_D_same_64 rfl (lv_at hl 0 rfl) ?_
              refine dGetA 10 X I (by decide) (by decide) d_D_same_65 ?_
              refine lv_bipush (v := 64) hx hb d_D_same_68 (by decide) ?_
              refine lv_iload_n hx hb d_D_same_70 rfl (lv_at hl 1 rfl) ?_
              refine lv_iadd hx hb d_D_same_71 ?_
              refine dIald 10 X I (by decide) rfl k2 d_D_same_72 ?_
              refine lv_icmp_ne (tgt := 82) hx hb d_D_same_73 (by decide) (fun c_73 => ?_) (fun c_73 => ?_)
              · rw [if_neg c_73] at hΦ
                refine lv_iload_n hx hb d_D_same_82 rfl (lv_at hl 1 rfl) ?_
                exact hret _ _ _ _ _ _ I hΦ d_D_same_83
              · rw [if_pos c_73] at hΦ
                refine lv_iinc (v := (v1 + 1)) (lv' := [(1, .int (v1 + 1)), (0, .ref (ad 0))]) hx hb d_D_same_76 hl (k := 1) rfl rfl (by decide) rfl (fun ls hl => ?_)
                refine lv_goto (tgt := 2) hx hb d_D_same_79 (by decide) ?_
                exact ih τ (v1 + 1) _ _ _ I (lv_sub hl [1, 0] rfl) hΦ hB ⟨by rw [e1]; omega, by rw [e1]; omega⟩ (by rw [e1]; omega)
  rw [f_D_same] at hΦ
  refine lv_iconst (v := 0) hx hb d_D_same_0 (by decide) ?_
  refine lv_istore_n (lv' := [(1, .int 0), (0, .ref (ad 0))]) hx hb d_D_same_1 rfl hl (by decide) rfl (fun ls hl => ?_)
  exact blk_2 66 τ 0 _ _ _ I (lv_sub hl [1, 0] rfl) hΦ hB (by decide) (by decide)
end
section
/-! ===== constructors ===== -/
/-- the class of an array is one -/
theorem va_K1 {D : va_G} {cl : List vw_C} {tys : List (ClassId × FieldType)} {s : State} (h : va_K D cl tys s) {i j : Nat} {c1 c2 : ClassId} (h1 : tys[i]? = some (c1, .int)) (h2 : tys[j]? = some (c2, .int)) : c1 = c2 := Option.some.inj ((h.2 i _ h1).2.symm.trans (h.2 j _ h2).2)
theorem va_K2 {D : va_G} {cl : List vw_C} {tys : List (ClassId × FieldType)} {s : State} (h : va_K D cl tys s) {i j : Nat} {c1 c2 : ClassId} (h1 : tys[i]? = some (c1, .boolean)) (h2 : tys[j]? = some (c2, .boolean)) : c1 = c2 := Option.some.inj ((h.2 i _ h1).2.symm.trans (h.2 j _ h2).2)
theorem va_K3 {D : va_G} {cl : List vw_C} {tys : List (ClassId × FieldType)} {s : State} {C : String} (h : va_K D cl tys s) {i j : Nat} {c1 c2 : ClassId} (h1 : tys[i]? = some (c1, .object C)) (h2 : tys[j]? = some (c2, .object C)) : c1 = c2 := by
  obtain ⟨_, _, _, _, _, e1⟩ := (h.2 i _ h1).2
  obtain ⟨_, _, _, _, _, e2⟩ := (h.2 j _ h2).2
  exact Option.some.inj (e1.symm.trans e2)
/-- Message(): nothing changes, in any world -/
theorem c_G_init (l : Launch) (D : va_G) (A : Nat → Prop) (tys : List (ClassId × FieldType)) (ws : va_W) (h0 : Nat) : Met l y_G_init (Cond.code y_G_init b_G_init 1 none :: BASE) (rmK 1) (va_Pc [.ref h0] (Pre D tys A ws)) (va_Qv (fun _ : Unit => True) (Pst D A (fun _ : Unit => ws)) A) 0 0 A := by
  refine enterV (by decide) (Nat.le_of_ble_eq_true rfl) ?_
  intro p e s m args below meth c Q X hret I ls hl
  have hx := X.x
  have hb := X.b
  have hl : lv_has ls 1 [(0, .ref h0)] := hl
  refine lv_aload_n hx hb d_G_init_0 rfl (lv_at hl 0 rfl) ?_
  refine W.objInit hx hb X.1.2.2.2.1 (X.1.2.2.2.2 _ (mB 83 rfl rfl)) (X.1.2.2.2.2 _ (mB 26 rfl rfl)) (X.1.2.2.2.2 _ (mB 27 rfl rfl)) rfl (by rw [X.1.2.2.1]; exact hl.1) rfl d_G_init_1 (Nat.le_of_ble_eq_true rfl) (Nat.le_of_ble_eq_true rfl) ?_
  refine W.eq (g2 := F0 m 4 ls []) rfl ?_
  exact hret _ _ _ _ () I trivial d_G_init_4
def nd0 : List Value := [.int 0, .null, .null, .null, .int 0, .int 0, .int 0, .int 0, .int 0, .int 0]
def ndw (ca : Nat → ClassId) (h0 : Nat) (u : Nat × Nat × Nat) : va_W := [(h0, .inr (1, [.int 0, .ref u.1, .ref u.2.1, .ref u.2.2, .int 0, .int 1, .int 0, .int (-1), .int (-1), .int 0])), (u.1, .inl (ca 0, 64, .inl (fun _ => 0))), (u.2.1, .inl (ca 0, 64, .inl (fun _ => 0))), (u.2.2, .inl (ca 0, 64, .inl (fun _ => 0)))]
set_option maxHeartbeats 4000000 in
set_option maxRecDepth 100000 in
/-- Node(): three new arrays -/
theorem c_N_init (l : Launch) (D : va_G) (ca : Nat → ClassId) (A : Nat → Prop) (h0 sz : Nat) (hA : ∀ q : Nat, sz ≤ q → A q) : Met l y_N_init (Cond.code y_N_init b_N_init 1 none :: BASE) ({ frames := 1, cells := 3, slots := 192, locals := 25 }) (va_Pc [.ref h0] (fun U => U.heap.size = sz ∧ Pre D (tysT ca) A [(h0, .inr (1, nd0))] U)) (va_Qv (fun _ : Nat × Nat × Nat => True) (Pst D A (ndw ca h0)) A) 3 192 A := by
  refine Met.ofW (cc := b_N_init) (maxL := 1) (ret := none) (by decide) rfl ?_
  intro p e s m args below meth c s₁ B hml hv
  obtain ⟨rfl, hsz, hP, hK0, hD⟩ := hv
  have hx := B.exec
  have hb := B.bytes
  have hr := B.returns
  have hts0 := atoms_spec (ws := Cond.code y_N_init b_N_init 1 none :: BASE) B.pre
  have hts : ∀ w ∈ BASE, w.before _ s = true := fun w hw => hts0 w (List.mem_cons_of_mem _ hw)
  have hown : s.vm.findClass R_N = some m.cls := findClass_of_methodNamed B.named
  have hlocks := B.notSynchronized
  have hin : meth.name = "<init>" := (name_of_methodNamed B.named B.method).1
  subst hsz
  have hS : va_S A s.heap s.heap [] := va_S.rf
  have hK := hK0.1
  have hl := lv_entry ([.ref h0]) (n := 1) (Nat.le_of_ble_eq_true rfl)
  rw [lg_entry_eq]
  generalize (lg_sl ([.ref h0]) ++ List.replicate (1 - (lg_sl ([.ref h0])).length) Slot.unset).toArray = ls at hl ⊢
  have hl : lv_has ls 1 [(0, .ref h0)] := hl
  refine lv_aload_n hx hb d_N_init_0 rfl (lv_at hl 0 rfl) ?_
  refine W.objInit hx hb hown (hts _ (mB 34 rfl rfl)) (hts _ (mB 26 rfl rfl)) (hts _ (mB 27 rfl rfl)) rfl (by rw [hml]; exact hl.1) rfl d_N_init_1 (Nat.le_of_ble_eq_true rfl) (Nat.le_of_ble_eq_true rfl) ?_
  refine W.eq (g2 := F0 m 4 ls []) rfl ?_
  refine lv_aload_n hx hb d_N_init_4 rfl (lv_at hl 0 rfl) ?_
  refine lv_bipush (v := 64) hx hb d_N_init_5 (by decide) ?_
  refine va_newa (ty := .int) (N' := 64) (a0 := (64, .inl (fun _ => 0))) hx hb (hts _ (mB 76 rfl rfl)) rfl hK hP hD hS hA (fun _ => rfl) (by decide) (by decide) (by decide) (Nat.le_of_ble_eq_true rfl) (Nat.le_of_ble_eq_true rfl) d_N_init_7 (fun q1 cA H hK hP hD hS => ?_)
  obtain rfl : cA = ca 0 := va_K1 hK (i := 3) (j := 0) rfl rfl
  have hK := hK.sub (tys' := tysT ca) [0, 1, 2] rfl
  refine W.widen (k := 1) (n := 64) (Nat.le_of_ble_eq_true rfl) (Nat.le_of_ble_eq_true rfl) ?_
  refine va_putF (D := D) (ci := 1) (v := .ref q1) (ty := .array .int) (C := R_N) (T := F_N) (N := 10) hx hb hts i_N ft_N ft_N_ok n_N hown hK hP hD hS 0 rfl rfl 1 (by decide) (hts _ (oIx_in 1 (by decide))) (fun _ h9 => h9) rfl hin rfl (by decide +kernel) rfl rfl (Nat.le_of_ble_eq_true rfl) d_N_init_9 (fun H locs hP hD hS => ?_)
  have hP : va_P D classes [(h0, .inr (1, [.int 0, .ref q1, .null, .null, .int 0, .int 0, .int 0, .int 0, .int 0, .int 0])), (q1, .inl (ca 0, 64, .inl (fun _ => 0)))] H := hP
  have hD : va_D A [(h0, .inr (1, [.int 0, .ref q1, .null, .null, .int 0, .int 0, .int 0, .int 0, .int 0, .int 0])), (q1, .inl (ca 0, 64, .inl (fun _ => 0)))] := hD
  refine lv_aload_n hx hb d_N_init_12 rfl (lv_at hl 0 rfl) ?_
  refine lv_bipush (v := 64) hx hb d_N_init_13 (by decide) ?_
  refine va_newa (ty := .int) (N' := 64) (a0 := (64, .inl (fun _ => 0))) hx hb (hts _ (mB 76 rfl rfl)) rfl hK hP hD hS hA (fun _ => rfl) (by decide) (by decide) (by decide) (Nat.le_of_ble_eq_true rfl) (Nat.le_of_ble_eq_true rfl) d_N_init_15 (fun q2 cA H hK hP hD hS => ?_)
  obtain rfl : cA = ca 0 := va_K1 hK (i := 3) (j := 0) rfl rfl
  have hK := hK.sub (tys' := tysT ca) [0, 1, 2] rfl
  refine W.widen (k := 2) (n := 128) (Nat.le_of_ble_eq_true rfl) (Nat.le_of_ble_eq_true rfl) ?_
  refine va_putF (D := D) (ci := 1) (v := .ref q2) (ty := .array .int) (C := R_N) (T := F_N) (N := 10) hx hb hts i_N ft_N ft_N_ok n_N hown hK hP hD hS 0 rfl rfl 2 (by decide) (hts _ (oIx_in 2 (by decide))) (fun _ h9 => h9) rfl hin rfl (by decide +kernel) rfl rfl (Nat.le_of_ble_eq_true rfl) d_N_init_17 (fun H locs hP hD hS => ?_)
  have hP : va_P D classes [(h0, .inr (1, [.int 0, .ref q1, .ref q2, .null, .int 0, .int 0, .int 0, .int 0, .int 0, .int 0])), (q1, .inl (ca 0, 64, .inl (fun _ => 0))), (q2, .inl (ca 0, 64, .inl (fun _ => 0)))] H := hP
  have hD : va_D A [(h0, .inr (1, [.int 0, .ref q1, .ref q2, .null, .int 0, .int 0, .int 0, .int 0, .int 0, .int 0])), (q1, .inl (ca 0, 64, .inl (fun _ => 0))), (q2, .inl (ca 0, 64, .inl (fun _ => 0)))] := hD
  refine lv_aload_n hx hb d_N_init_20 rfl (lv_at hl 0 rfl) ?_
  refine lv_bipush (v := 64) hx hb d_N_init_21 (by decide) ?_
  refine va_newa (ty := .int) (N' := 64) (a0 := (64, .inl (fun _ => 0))) hx hb (hts _ (mB 76 rfl rfl)) rfl hK hP hD hS hA (fun _ => rfl) (by decide) (by decide) (by decide) (Nat.le_of_ble_eq_true rfl) (Nat.le_of_ble_eq_true rfl) d_N_init_23 (fun q3 cA H hK hP hD hS => ?_)
  obtain rfl : cA = ca 0 := va_K1 hK (i := 3) (j := 0) rfl rfl
  have hK := hK.sub (tys' := tysT ca) [0, 1, 2] rfl
  refine W.widen (k := 3) (n := 192) (Nat.le_of_ble_eq_true rfl) (Nat.le_of_ble_eq_true rfl) ?_
  refine va_putF (D := D) (ci := 1) (v := .ref q3) (ty := .array .int) (C := R_N) (T := F_N) (N := 10) hx hb hts i_N ft_N ft_N_ok n_N hown hK hP hD hS 0 rfl rfl 3 (by decide) (hts _ (oIx_in 3 (by decide))) (fun _ h9 => h9) rfl hin rfl (by decide +kernel) rfl rfl (Nat.le_of_ble_eq_true rfl) d_N_init_25 (fun H locs hP hD hS => ?_)
  have hP : va_P D classes [(h0, .inr (1, [.int 0, .ref q1, .ref q2, .ref q3, .int 0, .int 0, .int 0, .int 0, .int 0, .int 0])), (q1, .inl (ca 0, 64, .inl (fun _ => 0))), (q2, .inl (ca 0, 64, .inl (fun _ => 0))), (q3, .inl (ca 0, 64, .inl (fun _ => 0)))] H := hP
  have hD : va_D A [(h0, .inr (1, [.int 0, .ref q1, .ref q2, .ref q3, .int 0, .int 0, .int 0, .int 0, .int 0, .int 0])), (q1, .inl (ca 0, 64, .inl (fun _ => 0))), (q2, .inl (ca 0, 64, .inl (fun _ => 0))), (q3, .inl (ca 0, 64, .inl (fun _ => 0)))] := hD
  refine lv_aload_n hx hb d_N_init_28 rfl (lv_at hl 0 rfl) ?_
  refine lv_iconst (v := 1) hx hb d_N_init_29 (by decide) ?_
  refine va_put (D := D) (ci := 1) (v := .int 1) (ty := .boolean) (C := R_N) (T := F_N) (N := 10) hx hb hts i_N ft_N ft_N_ok n_N hown hK hP hD hS 0 rfl rfl 5 (by decide) (hts _ (oIx_in 5 (by decide))) (fun _ h9 => h9) rfl (by decide +kernel) rfl rfl (Nat.le_of_ble_eq_true rfl) d_N_init_30 (fun H locs hP hD hS => ?_)
  have hP : va_P D classes [(h0, .inr (1, [.int 0, .ref q1, .ref q2, .ref q3, .int 0, .int 1, .int 0, .int 0, .int 0, .int 0])), (q1, .inl (ca 0, 64, .inl (fun _ => 0))), (q2, .inl (ca 0, 64, .inl (fun _ => 0))), (q3, .inl (ca 0, 64, .inl (fun _ => 0)))] H := hP
  have hD : va_D A [(h0, .inr (1, [.int 0, .ref q1, .ref q2, .ref q3, .int 0, .int 1, .int 0, .int 0, .int 0, .int 0])), (q1, .inl (ca 0, 64, .inl (fun _ => 0))), (q2, .inl (ca 0, 64, .inl (fun _ => 0))), (q3, .inl (ca 0, 64, .inl (fun _ => 0)))] := hD
  refine lv_aload_n hx hb d_N_init_33 rfl (lv_at hl 0 rfl) ?_
  refine lv_iconst (v := (-1)) hx hb d_N_init_34 (by decide) ?_
  refine va_put (D := D) (ci := 1) (v := .int (-1)) (ty := .int) (C := R_N) (T := F_N) (N := 10) hx hb hts i_N ft_N ft_N_ok n_N hown hK hP hD hS 0 rfl rfl 7 (by decide) (hts _ (oIx_in 7 (by decide))) (fun _ h9 => h9) rfl (by decide +kernel) rfl rfl (Nat.le_of_ble_eq_true rfl) d_N_init_35 (fun H locs hP hD hS => ?_)
  have hP : va_P D classes [(h0, .inr (1, [.int 0, .ref q1, .ref q2, .ref q3, .int 0, .int 1, .int 0, .int (-1), .int 0, .int 0])), (q1, .inl (ca 0, 64, .inl (fun _ => 0))), (q2, .inl (ca 0, 64, .inl (fun _ => 0))), (q3, .inl (ca 0, 64, .inl (fun _ => 0)))] H := hP
  have hD : va_D A [(h0, .inr (1, [.int 0, .ref q1, .ref q2, .ref q3, .int 0, .int 1, .int 0, .int (-1), .int 0, .int 0])), (q1, .inl (ca 0, 64, .inl (fun _ => 0))), (q2, .inl (ca 0, 64, .inl (fun _ => 0))), (q3, .inl (ca 0, 64, .inl (fun _ => 0)))] := hD
  refine lv_aload_n hx hb d_N_init_38 rfl (lv_at hl 0 rfl) ?_
  refine lv_iconst (v := (-1)) hx hb d_N_init_39 (by decide) ?_
  refine va_put (D := D) (ci := 1) (v := .int (-1)) (ty := .int) (C := R_N) (T := F_N) (N := 10) hx hb hts i_N ft_N ft_N_ok n_N hown hK hP hD hS 0 rfl rfl 8 (by decide) (hts _ (oIx_in 8 (by decide))) (fun _ h9 => h9) rfl (by decide +kernel) rfl rfl (Nat.le_of_ble_eq_true rfl) d_N_init_40 (fun H locs hP hD hS => ?_)
  have hP : va_P D classes [(h0, .inr (1, [.int 0, .ref q1, .ref q2, .ref q3, .int 0, .int 1, .int 0, .int (-1), .int (-1), .int 0])), (q1, .inl (ca 0, 64, .inl (fun _ => 0))), (q2, .inl (ca 0, 64, .inl (fun _ => 0))), (q3, .inl (ca 0, 64, .inl (fun _ => 0)))] H := hP
  have hD : va_D A [(h0, .inr (1, [.int 0, .ref q1, .ref q2, .ref q3, .int 0, .int 1, .int 0, .int (-1), .int (-1), .int 0])), (q1, .inl (ca 0, 64, .inl (fun _ => 0))), (q2, .inl (ca 0, 64, .inl (fun _ => 0))), (q3, .inl (ca 0, 64, .inl (fun _ => 0)))] := hD
  exact W.vret hx hb hr (fun t ht hW => ⟨⟨(q1, q2, q3), rfl, trivial, by rw [ht]; exact hP, hD⟩, hS.F ht⟩) hS.2.2 d_N_init_43
end
section
def md0 : List Value := [.null, .null, .null, .null, .null, .null, .null, .null, .null, .null, .null, .int 0, .null]
def τZ : Mt := (0, fun _ _ => 0)
/-- the model behind its constructor -/
def τI : Mt := da (da (da (da (da (da τZ 1 (0 : Int32).toNatClampNeg 2) 4 (0 : Int32).toNatClampNeg 1) 5 (0 : Int32).toNatClampNeg (-1)) 5 (1 : Int32).toNatClampNeg (-1)) 6 (0 : Int32).toNatClampNeg (-1)) 6 (1 : Int32).toNatClampNeg (-1)
set_option maxHeartbeats 4000000 in
set_option maxRecDepth 100000 in
theorem c_D_init (l : Launch) (D : va_G) (ca : Nat → ClassId) (A : Nat → Prop) (h0 sz : Nat) (hA : ∀ q : Nat, sz ≤ q → A q) : Met l y_D_init (Cond.code y_D_init b_D_init 1 none :: BASE) ({ frames := 1, cells := 12, slots := 551, locals := 25 }) (va_Pc [.ref h0] (fun U => U.heap.size = sz ∧ Pre D (tysD ca) A [(h0, .inr (3, md0))] U)) (va_Qv (fun ad : Nat → Nat => ad 0 = h0) (Pst D A (fun ad => wD ca ad τI)) A) 12 551 A := by
  refine Met.ofW (cc := b_D_init) (maxL := 1) (ret := none) (by decide) rfl ?_
  intro p e s m args below meth c s₁ B hml hv
  obtain ⟨rfl, hsz, hP, hK0, hD⟩ := hv
  have hx := B.exec
  have hb := B.bytes
  have hr := B.returns
  have hts0 := atoms_spec (ws := Cond.code y_D_init b_D_init 1 none :: BASE) B.pre
  have hts : ∀ w ∈ BASE, w.before _ s = true := fun w hw => hts0 w (List.mem_cons_of_mem _ hw)
  have hown : s.vm.findClass R_D = some m.cls := findClass_of_methodNamed B.named
  have hlocks := B.notSynchronized
  have hin : meth.name = "<init>" := (name_of_methodNamed B.named B.method).1
  subst hsz
  have hS : va_S A s.heap s.heap [] := va_S.rf
  have hK := hK0.1
  have hl := lv_entry ([.ref h0]) (n := 1) (Nat.le_of_ble_eq_true rfl)
  rw [lg_entry_eq]
  generalize (lg_sl ([.ref h0]) ++ List.replicate (1 - (lg_sl ([.ref h0])).length) Slot.unset).toArray = ls at hl ⊢
  have hl : lv_has ls 1 [(0, .ref h0)] := hl
  refine lv_aload_n hx hb d_D_init_0 rfl (lv_at hl 0 rfl) ?_
  refine W.objInit hx hb hown (hts _ (mB 237 rfl rfl)) (hts _ (mB 26 rfl rfl)) (hts _ (mB 27 rfl rfl)) rfl (by rw [hml]; exact hl.1) rfl d_D_init_1 (Nat.le_of_ble_eq_true rfl) (Nat.le_of_ble_eq_true rfl) ?_
  refine W.eq (g2 := F0 m 4 ls []) rfl ?_
  refine lv_aload_n hx hb d_D_init_4 rfl (lv_at hl 0 rfl) ?_
  refine lv_iconst (v := 2) hx hb d_D_init_5 (by decide) ?_
  refine va_newa (ty := .int) (N' := 2) (a0 := (2, .inl (fun _ => 0))) hx hb (hts _ (mB 76 rfl rfl)) rfl hK hP hD hS hA (fun _ => rfl) (by decide) (by decide) (by decide) (Nat.le_of_ble_eq_true rfl) (Nat.le_of_ble_eq_true rfl) d_D_init_6 (fun q1 cA H hK hP hD hS => ?_)
  obtain rfl : cA = ca 0 := va_K1 hK (i := 2) (j := 0) rfl rfl
  have hK := hK.sub (tys' := tysD ca) [0, 1] rfl
  refine W.widen (k := 1) (n := 2) (Nat.le_of_ble_eq_true rfl) (Nat.le_of_ble_eq_true rfl) ?_
  refine va_putF (D := D) (ci := 3) (v := .ref q1) (ty := .array .int) (C := R_D) (T := F_D) (N := 13) hx hb hts i_D ft_D ft_D_ok n_D hown hK hP hD hS 0 rfl rfl 0 (by decide) (hts _ (dIx_in 0 (by decide))) (fun _ h9 => h9) rfl hin rfl (by decide +kernel) rfl rfl (Nat.le_of_ble_eq_true rfl) d_D_init_8 (fun H locs hP hD hS => ?_)
  have hP : va_P D classes [(h0, .inr (3, [.ref q1, .null, .null, .null, .null, .null, .null, .null, .null, .null, .null, .int 0, .null])), (q1, .inl (ca 0, 2, .inl (fun _ => 0)))] H := hP
  have hD : va_D A [(h0, .inr (3, [.ref q1, .null, .null, .null, .null, .null, .null, .null, .null, .null, .null, .int 0, .null])), (q1, .inl (ca 0, 2, .inl (fun _ => 0)))] := hD
  refine lv_aload_n hx hb d_D_init_11 rfl (lv_at hl 0 rfl) ?_
  refine lv_iconst (v := 2) hx hb d_D_init_12 (by decide) ?_
  refine va_newa (ty := .int) (N' := 2) (a0 := (2, .inl (fun _ => 0))) hx hb (hts _ (mB 76 rfl rfl)) rfl hK hP hD hS hA (fun _ => rfl) (by decide) (by decide) (by decide) (Nat.le_of_ble_eq_true rfl) (Nat.le_of_ble_eq_true rfl) d_D_init_13 (fun q2 cA H hK hP hD hS => ?_)
  obtain rfl : cA = ca 0 := va_K1 hK (i := 2) (j := 0) rfl rfl
  have hK := hK.sub (tys' := tysD ca) [0, 1] rfl
  refine W.widen (k := 2) (n := 4) (Nat.le_of_ble_eq_true rfl) (Nat.le_of_ble_eq_true rfl) ?_
  refine va_putF (D := D) (ci := 3) (v := .ref q2) (ty := .array .int) (C := R_D) (T := F_D) (N := 13) hx hb hts i_D ft_D ft_D_ok n_D hown hK hP hD hS 0 rfl rfl 1 (by decide) (hts _ (dIx_in 1 (by decide))) (fun _ h9 => h9) rfl hin rfl (by decide +kernel) rfl rfl (Nat.le_of_ble_eq_true rfl) d_D_init_15 (fun H locs hP hD hS => ?_)
  have hP : va_P D classes [(h0, .inr (3, [.ref q1, .ref q2, .null, .null, .null, .null, .null, .null, .null, .null, .null, .int 0, .null])), (q1, .inl (ca 0, 2, .inl (fun _ => 0))), (q2, .inl (ca 0, 2, .inl (fun _ => 0)))] H := hP
  have hD : va_D A [(h0, .inr (3, [.ref q1, .ref q2, .null, .null, .null, .null, .null, .null, .null, .null, .null, .int 0, .null])), (q1, .inl (ca 0, 2, .inl (fun _ => 0))), (q2, .inl (ca 0, 2, .inl (fun _ => 0)))] := hD
  refine lv_aload_n hx hb d_D_init_18 rfl (lv_at hl 0 rfl) ?_
  refine lv_iconst (v := 2) hx hb d_D_init_19 (by decide) ?_
  refine va_newa (ty := .boolean) (N' := 2) (a0 := (2, .inl (fun _ => 0))) hx hb (hts _ (mB 278 rfl rfl)) rfl hK hP hD hS hA (fun _ => rfl) (by decide) (by decide) (by decide) (Nat.le_of_ble_eq_true rfl) (Nat.le_of_ble_eq_true rfl) d_D_init_20 (fun q3 cA H hK hP hD hS => ?_)
  obtain rfl : cA = ca 1 := va_K2 hK (i := 2) (j := 1) rfl rfl
  have hK := hK.sub (tys' := tysD ca) [0, 1] rfl
  refine W.widen (k := 3) (n := 6) (Nat.le_of_ble_eq_true rfl) (Nat.le_of_ble_eq_true rfl) ?_
  refine va_putF (D := D) (ci := 3) (v := .ref q3) (ty := .array .boolean) (C := R_D) (T := F_D) (N := 13) hx hb hts i_D ft_D ft_D_ok n_D hown hK hP hD hS 0 rfl rfl 2 (by decide) (hts _ (dIx_in 2 (by decide))) (fun _ h9 => h9) rfl hin rfl (by decide +kernel) rfl rfl (Nat.le_of_ble_eq_true rfl) d_D_init_22 (fun H locs hP hD hS => ?_)
  have hP : va_P D classes [(h0, .inr (3, [.ref q1, .ref q2, .ref q3, .null, .null, .null, .null, .null, .null, .null, .null, .int 0, .null])), (q1, .inl (ca 0, 2, .inl (fun _ => 0))), (q2, .inl (ca 0, 2, .inl (fun _ => 0))), (q3, .inl (ca 1, 2, .inl (fun _ => 0)))] H := hP
  have hD : va_D A [(h0, .inr (3, [.ref q1, .ref q2, .ref q3, .null, .null, .null, .null, .null, .null, .null, .null, .int 0, .null])), (q1, .inl (ca 0, 2, .inl (fun _ => 0))), (q2, .inl (ca 0, 2, .inl (fun _ => 0))), (q3, .inl (ca 1, 2, .inl (fun _ => 0)))] := hD
  refine lv_aload_n hx hb d_D_init_25 rfl (lv_at hl 0 rfl) ?_
  refine lv_iconst (v := 2) hx hb d_D_init_26 (by decide) ?_
  refine va_newa (ty := .boolean) (N' := 2) (a0 := (2, .inl (fun _ => 0))) hx hb (hts _ (mB 278 rfl rfl)) rfl hK hP hD hS hA (fun _ => rfl) (by decide) (by decide) (by decide) (Nat.le_of_ble_eq_true rfl) (Nat.le_of_ble_eq_true rfl) d_D_init_27 (fun q4 cA H hK hP hD hS => ?_)
  obtain rfl : cA = ca 1 := va_K2 hK (i := 2) (j := 1) rfl rfl
  have hK := hK.sub (tys' := tysD ca) [0, 1] rfl
  refine W.widen (k := 4) (n := 8) (Nat.le_of_ble_eq_true rfl) (Nat.le_of_ble_eq_true rfl) ?_
  refine va_putF (D := D) (ci := 3) (v := .ref q4) (ty := .array .boolean) (C := R_D) (T := F_D) (N := 13) hx hb hts i_D ft_D ft_D_ok n_D hown hK hP hD hS 0 rfl rfl 3 (by decide) (hts _ (dIx_in 3 (by decide))) (fun _ h9 => h9) rfl hin rfl (by decide +kernel) rfl rfl (Nat.le_of_ble_eq_true rfl) d_D_init_29 (fun H locs hP hD hS => ?_)
  have hP : va_P D classes [(h0, .inr (3, [.ref q1, .ref q2, .ref q3, .ref q4, .null, .null, .null, .null, .null, .null, .null, .int 0, .null])), (q1, .inl (ca 0, 2, .inl (fun _ => 0))), (q2, .inl (ca 0, 2, .inl (fun _ => 0))), (q3, .inl (ca 1, 2, .inl (fun _ => 0))), (q4, .inl (ca 1, 2, .inl (fun _ => 0)))] H := hP
  have hD : va_D A [(h0, .inr (3, [.ref q1, .ref q2, .ref q3, .ref q4, .null, .null, .null, .null, .null, .null, .null, .int 0, .null])), (q1, .inl (ca 0, 2, .inl (fun _ => 0))), (q2, .inl (ca 0, 2, .inl (fun _ => 0))), (q3, .inl (ca 1, 2, .inl (fun _ => 0))), (q4, .inl (ca 1, 2, .inl (fun _ => 0)))] := hD
  refine lv_aload_n hx hb d_D_init_32 rfl (lv_at hl 0 rfl) ?_
  refine lv_iconst (v := 2) hx hb d_D_init_33 (by decide) ?_
  refine va_newa (ty := .int) (N' := 2) (a0 := (2, .inl (fun _ => 0))) hx hb (hts _ (mB 76 rfl rfl)) rfl hK hP hD hS hA (fun _ => rfl) (by decide) (by decide) (by decide) (Nat.le_of_ble_eq_true rfl) (Nat.le_of_ble_eq_true rfl) d_D_init_34 (fun q5 cA H hK hP hD hS => ?_)
  obtain rfl : cA = ca 0 := va_K1 hK (i := 2) (j := 0) rfl rfl
  have hK := hK.sub (tys' := tysD ca) [0, 1] rfl
  refine W.widen (k := 5) (n := 10) (Nat.le_of_ble_eq_true rfl) (Nat.le_of_ble_eq_true rfl) ?_
  refine va_putF (D := D) (ci := 3) (v := .ref q5) (ty := .array .int) (C := R_D) (T := F_D) (N := 13) hx hb hts i_D ft_D ft_D_ok n_D hown hK hP hD hS 0 rfl rfl 4 (by decide) (hts _ (dIx_in 4 (by decide))) (fun _ h9 => h9) rfl hin rfl (by decide +kernel) rfl rfl (Nat.le_of_ble_eq_true rfl) d_D_init_36 (fun H locs hP hD hS => ?_)
  have hP : va_P D classes [(h0, .inr (3, [.ref q1, .ref q2, .ref q3, .ref q4, .ref q5, .null, .null, .null, .null, .null, .null, .int 0, .null])), (q1, .inl (ca 0, 2, .inl (fun _ => 0))), (q2, .inl (ca 0, 2, .inl (fun _ => 0))), (q3, .inl (ca 1, 2, .inl (fun _ => 0))), (q4, .inl (ca 1, 2, .inl (fun _ => 0))), (q5, .inl (ca 0, 2, .inl (fun _ => 0)))] H := hP
  have hD : va_D A [(h0, .inr (3, [.ref q1, .ref q2, .ref q3, .ref q4, .ref q5, .null, .null, .null, .null, .null, .null, .int 0, .null])), (q1, .inl (ca 0, 2, .inl (fun _ => 0))), (q2, .inl (ca 0, 2, .inl (fun _ => 0))), (q3, .inl (ca 1, 2, .inl (fun _ => 0))), (q4, .inl (ca 1, 2, .inl (fun _ => 0))), (q5, .inl (ca 0, 2, .inl (fun _ => 0)))] := hD
  refine lv_aload_n hx hb d_D_init_39 rfl (lv_at hl 0 rfl) ?_
  refine lv_iconst (v := 2) hx hb d_D_init_40 (by decide) ?_
  refine va_newa (ty := .int) (N' := 2) (a0 := (2, .inl (fun _ => 0))) hx hb (hts _ (mB 76 rfl rfl)) rfl hK hP hD hS hA (fun _ => rfl) (by decide) (by decide) (by decide) (Nat.le_of_ble_eq_true rfl) (Nat.le_of_ble_eq_true rfl) d_D_init_41 (fun q6 cA H hK hP hD hS => ?_)
  obtain rfl : cA = ca 0 := va_K1 hK (i := 2) (j := 0) rfl rfl
  have hK := hK.sub (tys' := tysD ca) [0, 1] rfl
  refine W.widen (k := 6) (n := 12) (Nat.le_of_ble_eq_true rfl) (Nat.le_of_ble_eq_true rfl) ?_
  refine va_putF (D := D) (ci := 3) (v := .ref q6) (ty := .array .int) (C := R_D) (T := F_D) (N := 13) hx hb hts i_D ft_D ft_D_ok n_D hown hK hP hD hS 0 rfl rfl 5 (by decide) (hts _ (dIx_in 5 (by decide))) (fun _ h9 => h9) rfl hin rfl (by decide +kernel) rfl rfl (Nat.le_of_ble_eq_true rfl) d_D_init_43 (fun H locs hP hD hS => ?_)
  have hP : va_P D classes [(h0, .inr (3, [.ref q1, .ref q2, .ref q3, .ref q4, .ref q5, .ref q6, .null, .null, .null, .null, .null, .int 0, .null])), (q1, .inl (ca 0, 2, .inl (fun _ => 0))), (q2, .inl (ca 0, 2, .inl (fun _ => 0))), (q3, .inl (ca 1, 2, .inl (fun _ => 0))), (q4, .inl (ca 1, 2, .inl (fun _ => 0))), (q5, .inl (ca 0, 2, .inl (fun _ => 0))), (q6, .inl (ca 0, 2, .inl (fun _ => 0)))] H := hP
  have hD : va_D A [(h0, .inr (3, [.ref q1, .ref q2, .ref q3, .ref q4, .ref q5, .ref q6, .null, .null, .null, .null, .null, .int 0, .null])), (q1, .inl (ca 0, 2, .inl (fun _ => 0))), (q2, .inl (ca 0, 2, .inl (fun _ => 0))), (q3, .inl (ca 1, 2, .inl (fun _ => 0))), (q4, .inl (ca 1, 2, .inl (fun _ => 0))), (q5, .inl (ca 0, 2, .inl (fun _ => 0))), (q6, .inl (ca 0, 2, .inl (fun _ => 0)))] := hD
  refine lv_aload_n hx hb d_D_init_46 rfl (lv_at hl 0 rfl) ?_
  refine lv_iconst (v := 2) hx hb d_D_init_47 (by decide) ?_
  refine va_newa (ty := .int) (N' := 2) (a0 := (2, .inl (fun _ => 0))) hx hb (hts _ (mB 76 rfl rfl)) rfl hK hP hD hS hA (fun _ => rfl) (by decide) (by decide) (by decide) (Nat.le_of_ble_eq_true rfl) (Nat.le_of_ble_eq_true rfl) d_D_init_48 (fun q7 cA H hK hP hD hS => ?_)
  obtain rfl : cA = ca 0 := va_K1 hK (i := 2) (j := 0) rfl rfl
  have hK := hK.sub (tys' := tysD ca) [0, 1] rfl
  refine W.widen (k := 7) (n := 14) (Nat.le_of_ble_eq_true rfl) (Nat.le_of_ble_eq_true rfl) ?_
  refine va_putF (D := D) (ci := 3) (v := .ref q7) (ty := .array .int) (C := R_D) (T := F_D) (N := 13) hx hb hts i_D ft_D ft_D_ok n_D hown hK hP hD hS 0 rfl rfl 6 (by decide) (hts _ (dIx_in 6 (by decide))) (fun _ h9 => h9) rfl hin rfl (by decide +kernel) rfl rfl (Nat.le_of_ble_eq_true rfl) d_D_init_50 (fun H locs hP hD hS => ?_)
  have hP : va_P D classes [(h0, .inr (3, [.ref q1, .ref q2, .ref q3, .ref q4, .ref q5, .ref q6, .ref q7, .null, .null, .null, .null, .int 0, .null])), (q1, .inl (ca 0, 2, .inl (fun _ => 0))), (q2, .inl (ca 0, 2, .inl (fun _ => 0))), (q3, .inl (ca 1, 2, .inl (fun _ => 0))), (q4, .inl (ca 1, 2, .inl (fun _ => 0))), (q5, .inl (ca 0, 2, .inl (fun _ => 0))), (q6, .inl (ca 0, 2, .inl (fun _ => 0))), (q7, .inl (ca 0, 2, .inl (fun _ => 0)))] H := hP
  have hD : va_D A [(h0, .inr (3, [.ref q1, .ref q2, .ref q3, .ref q4, .ref q5, .ref q6, .ref q7, .null, .null, .null, .null, .int 0, .null])), (q1, .inl (ca 0, 2, .inl (fun _ => 0))), (q2, .inl (ca 0, 2, .inl (fun _ => 0))), (q3, .inl (ca 1, 2, .inl (fun _ => 0))), (q4, .inl (ca 1, 2, .inl (fun _ => 0))), (q5, .inl (ca 0, 2, .inl (fun _ => 0))), (q6, .inl (ca 0, 2, .inl (fun _ => 0))), (q7, .inl (ca 0, 2, .inl (fun _ => 0)))] := hD
  refine lv_aload_n hx hb d_D_init_53 rfl (lv_at hl 0 rfl) ?_
  refine lv_sipush (v := 128) hx hb d_D_init_54 (by decide) ?_
  refine va_newa (ty := .int) (N' := 128) (a0 := (128, .inl (fun _ => 0))) hx hb (hts _ (mB 76 rfl rfl)) rfl hK hP hD hS hA (fun _ => rfl) (by decide) (by decide) (by decide) (Nat.le_of_ble_eq_true rfl) (Nat.le_of_ble_eq_true rfl) d_D_init_57 (fun q8 cA H hK hP hD hS => ?_)
  obtain rfl : cA = ca 0 := va_K1 hK (i := 2) (j := 0) rfl rfl
  have hK := hK.sub (tys' := tysD ca) [0, 1] rfl
  refine W.widen (k := 8) (n := 142) (Nat.le_of_ble_eq_true rfl) (Nat.le_of_ble_eq_true rfl) ?_
  refine va_putF (D := D) (ci := 3) (v := .ref q8) (ty := .array .int) (C := R_D) (T := F_D) (N := 13) hx hb hts i_D ft_D ft_D_ok n_D hown hK hP hD hS 0 rfl rfl 7 (by decide) (hts _ (dIx_in 7 (by decide))) (fun _ h9 => h9) rfl hin rfl (by decide +kernel) rfl rfl (Nat.le_of_ble_eq_true rfl) d_D_init_59 (fun H locs hP hD hS => ?_)
  have hP : va_P D classes [(h0, .inr (3, [.ref q1, .ref q2, .ref q3, .ref q4, .ref q5, .ref q6, .ref q7, .ref q8, .null, .null, .null, .int 0, .null])), (q1, .inl (ca 0, 2, .inl (fun _ => 0))), (q2, .inl (ca 0, 2, .inl (fun _ => 0))), (q3, .inl (ca 1, 2, .inl (fun _ => 0))), (q4, .inl (ca 1, 2, .inl (fun _ => 0))), (q5, .inl (ca 0, 2, .inl (fun _ => 0))), (q6, .inl (ca 0, 2, .inl (fun _ => 0))), (q7, .inl (ca 0, 2, .inl (fun _ => 0))), (q8, .inl (ca 0, 128, .inl (fun _ => 0)))] H := hP
  have hD : va_D A [(h0, .inr (3, [.ref q1, .ref q2, .ref q3, .ref q4, .ref q5, .ref q6, .ref q7, .ref q8, .null, .null, .null, .int 0, .null])), (q1, .inl (ca 0, 2, .inl (fun _ => 0))), (q2, .inl (ca 0, 2, .inl (fun _ => 0))), (q3, .inl (ca 1, 2, .inl (fun _ => 0))), (q4, .inl (ca 1, 2, .inl (fun _ => 0))), (q5, .inl (ca 0, 2, .inl (fun _ => 0))), (q6, .inl (ca 0, 2, .inl (fun _ => 0))), (q7, .inl (ca 0, 2, .inl (fun _ => 0))), (q8, .inl (ca 0, 128, .inl (fun _ => 0)))] := hD
  refine lv_aload_n hx hb d_D_init_62 rfl (lv_at hl 0 rfl) ?_
  refine lv_sipush (v := 128) hx hb d_D_init_63 (by decide) ?_
  refine va_newa (ty := .int) (N' := 128) (a0 := (128, .inl (fun _ => 0))) hx hb (hts _ (mB 76 rfl rfl)) rfl hK hP hD hS hA (fun _ => rfl) (by decide) (by decide) (by decide) (Nat.le_of_ble_eq_true rfl) (Nat.le_of_ble_eq_true rfl) d_D_init_66 (fun q9 cA H hK hP hD hS => ?_)
  obtain rfl : cA = ca 0 := va_K1 hK (i := 2) (j := 0) rfl rfl
  have hK := hK.sub (tys' := tysD ca) [0, 1] rfl
  refine W.widen (k := 9) (n := 270) (Nat.le_of_ble_eq_true rfl) (Nat.le_of_ble_eq_true rfl) ?_
  refine va_putF (D := D) (ci := 3) (v := .ref q9) (ty := .array .int) (C := R_D) (T := F_D) (N := 13) hx hb hts i_D ft_D ft_D_ok n_D hown hK hP hD hS 0 rfl rfl 8 (by decide) (hts _ (dIx_in 8 (by decide))) (fun _ h9 => h9) rfl hin rfl (by decide +kernel) rfl rfl (Nat.le_of_ble_eq_true rfl) d_D_init_68 (fun H locs hP hD hS => ?_)
  have hP : va_P D classes [(h0, .inr (3, [.ref q1, .ref q2, .ref q3, .ref q4, .ref q5, .ref q6, .ref q7, .ref q8, .ref q9, .null, .null, .int 0, .null])), (q1, .inl (ca 0, 2, .inl (fun _ => 0))), (q2, .inl (ca 0, 2, .inl (fun _ => 0))), (q3, .inl (ca 1, 2, .inl (fun _ => 0))), (q4, .inl (ca 1, 2, .inl (fun _ => 0))), (q5, .inl (ca 0, 2, .inl (fun _ => 0))), (q6, .inl (ca 0, 2, .inl (fun _ => 0))), (q7, .inl (ca 0, 2, .inl (fun _ => 0))), (q8, .inl (ca 0, 128, .inl (fun _ => 0))), (q9, .inl (ca 0, 128, .inl (fun _ => 0)))] H := hP
  have hD : va_D A [(h0, .inr (3, [.ref q1, .ref q2, .ref q3, .ref q4, .ref q5, .ref q6, .ref q7, .ref q8, .ref q9, .null, .null, .int 0, .null])), (q1, .inl (ca 0, 2, .inl (fun _ => 0))), (q2, .inl (ca 0, 2, .inl (fun _ => 0))), (q3, .inl (ca 1, 2, .inl (fun _ => 0))), (q4, .inl (ca 1, 2, .inl (fun _ => 0))), (q5, .inl (ca 0, 2, .inl (fun _ => 0))), (q6, .inl (ca 0, 2, .inl (fun _ => 0))), (q7, .inl (ca 0, 2, .inl (fun _ => 0))), (q8, .inl (ca 0, 128, .inl (fun _ => 0))), (q9, .inl (ca 0, 128, .inl (fun _ => 0)))] := hD
  refine lv_aload_n hx hb d_D_init_71 rfl (lv_at hl 0 rfl) ?_
  refine lv_sipush (v := 128) hx hb d_D_init_72 (by decide) ?_
  refine va_newa (ty := .int) (N' := 128) (a0 := (128, .inl (fun _ => 0))) hx hb (hts _ (mB 76 rfl rfl)) rfl hK hP hD hS hA (fun _ => rfl) (by decide) (by decide) (by decide) (Nat.le_of_ble_eq_true rfl) (Nat.le_of_ble_eq_true rfl) d_D_init_75 (fun q10 cA H hK hP hD hS => ?_)
  obtain rfl : cA = ca 0 := va_K1 hK (i := 2) (j := 0) rfl rfl
  have hK := hK.sub (tys' := tysD ca) [0, 1] rfl
  refine W.widen (k := 10) (n := 398) (Nat.le_of_ble_eq_true rfl) (Nat.le_of_ble_eq_true rfl) ?_
  refine va_putF (D := D) (ci := 3) (v := .ref q10) (ty := .array .int) (C := R_D) (T := F_D) (N := 13) hx hb hts i_D ft_D ft_D_ok n_D hown hK hP hD hS 0 rfl rfl 9 (by decide) (hts _ (dIx_in 9 (by decide))) (fun _ h9 => h9) rfl hin rfl (by decide +kernel) rfl rfl (Nat.le_of_ble_eq_true rfl) d_D_init_77 (fun H locs hP hD hS => ?_)
  have hP : va_P D classes [(h0, .inr (3, [.ref q1, .ref q2, .ref q3, .ref q4, .ref q5, .ref q6, .ref q7, .ref q8, .ref q9, .ref q10, .null, .int 0, .null])), (q1, .inl (ca 0, 2, .inl (fun _ => 0))), (q2, .inl (ca 0, 2, .inl (fun _ => 0))), (q3, .inl (ca 1, 2, .inl (fun _ => 0))), (q4, .inl (ca 1, 2, .inl (fun _ => 0))), (q5, .inl (ca 0, 2, .inl (fun _ => 0))), (q6, .inl (ca 0, 2, .inl (fun _ => 0))), (q7, .inl (ca 0, 2, .inl (fun _ => 0))), (q8, .inl (ca 0, 128, .inl (fun _ => 0))), (q9, .inl (ca 0, 128, .inl (fun _ => 0))), (q10, .inl (ca 0, 128, .inl (fun _ => 0)))] H := hP
  have hD : va_D A [(h0, .inr (3, [.ref q1, .ref q2, .ref q3, .ref q4, .ref q5, .ref q6, .ref q7, .ref q8, .ref q9, .ref q10, .null, .int 0, .null])), (q1, .inl (ca 0, 2, .inl (fun _ => 0))), (q2, .inl (ca 0, 2, .inl (fun _ => 0))), (q3, .inl (ca 1, 2, .inl (fun _ => 0))), (q4, .inl (ca 1, 2, .inl (fun _ => 0))), (q5, .inl (ca 0, 2, .inl (fun _ => 0))), (q6, .inl (ca 0, 2, .inl (fun _ => 0))), (q7, .inl (ca 0, 2, .inl (fun _ => 0))), (q8, .inl (ca 0, 128, .inl (fun _ => 0))), (q9, .inl (ca 0, 128, .inl (fun _ => 0))), (q10, .inl (ca 0, 128, .inl (fun _ => 0)))] := hD
  refine lv_aload_n hx hb d_D_init_80 rfl (lv_at hl 0 rfl) ?_
  refine lv_sipush (v := 144) hx hb d_D_init_81 (by decide) ?_
  refine va_newa (ty := .int) (N' := 144) (a0 := (144, .inl (fun _ => 0))) hx hb (hts _ (mB 76 rfl rfl)) rfl hK hP hD hS hA (fun _ => rfl) (by decide) (by decide) (by decide) (Nat.le_of_ble_eq_true rfl) (Nat.le_of_ble_eq_true rfl) d_D_init_84 (fun q11 cA H hK hP hD hS => ?_)
  obtain rfl : cA = ca 0 := va_K1 hK (i := 2) (j := 0) rfl rfl
  have hK := hK.sub (tys' := tysD ca) [0, 1] rfl
  refine W.widen (k := 11) (n := 542) (Nat.le_of_ble_eq_true rfl) (Nat.le_of_ble_eq_true rfl) ?_
  refine va_putF (D := D) (ci := 3) (v := .ref q11) (ty := .array .int) (C := R_D) (T := F_D) (N := 13) hx hb hts i_D ft_D ft_D_ok n_D hown hK hP hD hS 0 rfl rfl 10 (by decide) (hts _ (dIx_in 10 (by decide))) (fun _ h9 => h9) rfl hin rfl (by decide +kernel) rfl rfl (Nat.le_of_ble_eq_true rfl) d_D_init_86 (fun H locs hP hD hS => ?_)
  have hP : va_P D classes [(h0, .inr (3, [.ref q1, .ref q2, .ref q3, .ref q4, .ref q5, .ref q6, .ref q7, .ref q8, .ref q9, .ref q10, .ref q11, .int 0, .null])), (q1, .inl (ca 0, 2, .inl (fun _ => 0))), (q2, .inl (ca 0, 2, .inl (fun _ => 0))), (q3, .inl (ca 1, 2, .inl (fun _ => 0))), (q4, .inl (ca 1, 2, .inl (fun _ => 0))), (q5, .inl (ca 0, 2, .inl (fun _ => 0))), (q6, .inl (ca 0, 2, .inl (fun _ => 0))), (q7, .inl (ca 0, 2, .inl (fun _ => 0))), (q8, .inl (ca 0, 128, .inl (fun _ => 0))), (q9, .inl (ca 0, 128, .inl (fun _ => 0))), (q10, .inl (ca 0, 128, .inl (fun _ => 0))), (q11, .inl (ca 0, 144, .inl (fun _ => 0)))] H := hP
  have hD : va_D A [(h0, .inr (3, [.ref q1, .ref q2, .ref q3, .ref q4, .ref q5, .ref q6, .ref q7, .ref q8, .ref q9, .ref q10, .ref q11, .int 0, .null])), (q1, .inl (ca 0, 2, .inl (fun _ => 0))), (q2, .inl (ca 0, 2, .inl (fun _ => 0))), (q3, .inl (ca 1, 2, .inl (fun _ => 0))), (q4, .inl (ca 1, 2, .inl (fun _ => 0))), (q5, .inl (ca 0, 2, .inl (fun _ => 0))), (q6, .inl (ca 0, 2, .inl (fun _ => 0))), (q7, .inl (ca 0, 2, .inl (fun _ => 0))), (q8, .inl (ca 0, 128, .inl (fun _ => 0))), (q9, .inl (ca 0, 128, .inl (fun _ => 0))), (q10, .inl (ca 0, 128, .inl (fun _ => 0))), (q11, .inl (ca 0, 144, .inl (fun _ => 0)))] := hD
  refine lv_aload_n hx hb d_D_init_89 rfl (lv_at hl 0 rfl) ?_
  refine lv_bipush (v := 9) hx hb d_D_init_90 (by decide) ?_
  refine va_newa (ty := .int) (N' := 9) (a0 := (9, .inl (fun _ => 0))) hx hb (hts _ (mB 76 rfl rfl)) rfl hK hP hD hS hA (fun _ => rfl) (by decide) (by decide) (by decide) (Nat.le_of_ble_eq_true rfl) (Nat.le_of_ble_eq_true rfl) d_D_init_92 (fun q12 cA H hK hP hD hS => ?_)
  obtain rfl : cA = ca 0 := va_K1 hK (i := 2) (j := 0) rfl rfl
  have hK := hK.sub (tys' := tysD ca) [0, 1] rfl
  refine W.widen (k := 12) (n := 551) (Nat.le_of_ble_eq_true rfl) (Nat.le_of_ble_eq_true rfl) ?_
  refine va_putF (D := D) (ci := 3) (v := .ref q12) (ty := .array .int) (C := R_D) (T := F_D) (N := 13) hx hb hts i_D ft_D ft_D_ok n_D hown hK hP hD hS 0 rfl rfl 12 (by decide) (hts _ (dIx_in 12 (by decide))) (fun _ h9 => h9) rfl hin rfl (by decide +kernel) rfl rfl (Nat.le_of_ble_eq_true rfl) d_D_init_94 (fun H locs hP hD hS => ?_)
  have hP : va_P D classes [(h0, .inr (3, [.ref q1, .ref q2, .ref q3, .ref q4, .ref q5, .ref q6, .ref q7, .ref q8, .ref q9, .ref q10, .ref q11, .int 0, .ref q12])), (q1, .inl (ca 0, 2, .inl (fun _ => 0))), (q2, .inl (ca 0, 2, .inl (fun _ => 0))), (q3, .inl (ca 1, 2, .inl (fun _ => 0))), (q4, .inl (ca 1, 2, .inl (fun _ => 0))), (q5, .inl (ca 0, 2, .inl (fun _ => 0))), (q6, .inl (ca 0, 2, .inl (fun _ => 0))), (q7, .inl (ca 0, 2, .inl (fun _ => 0))), (q8, .inl (ca 0, 128, .inl (fun _ => 0))), (q9, .inl (ca 0, 128, .inl (fun _ => 0))), (q10, .inl (ca 0, 128, .inl (fun _ => 0))), (q11, .inl (ca 0, 144, .inl (fun _ => 0))), (q12, .inl (ca 0, 9, .inl (fun _ => 0)))] H := hP
  have hD : va_D A [(h0, .inr (3, [.ref q1, .ref q2, .ref q3, .ref q4, .ref q5, .ref q6, .ref q7, .ref q8, .ref q9, .ref q10, .ref q11, .int 0, .ref q12])), (q1, .inl (ca 0, 2, .inl (fun _ => 0))), (q2, .inl (ca 0, 2, .inl (fun _ => 0))), (q3, .inl (ca 1, 2, .inl (fun _ => 0))), (q4, .inl (ca 1, 2, .inl (fun _ => 0))), (q5, .inl (ca 0, 2, .inl (fun _ => 0))), (q6, .inl (ca 0, 2, .inl (fun _ => 0))), (q7, .inl (ca 0, 2, .inl (fun _ => 0))), (q8, .inl (ca 0, 128, .inl (fun _ => 0))), (q9, .inl (ca 0, 128, .inl (fun _ => 0))), (q10, .inl (ca 0, 128, .inl (fun _ => 0))), (q11, .inl (ca 0, 144, .inl (fun _ => 0))), (q12, .inl (ca 0, 9, .inl (fun _ => 0)))] := hD
  obtain ⟨ad, had⟩ : ∃ ad : Nat → Nat, ad = fun j => [h0, q1, q2, q3, q4, q5, q6, q7, q8, q9, q10, q11, q12].getD j 0 := ⟨_, rfl⟩
  have a0 : ad 0 = h0 := by rw [had]; rfl
  have a1 : ad 1 = q1 := by rw [had]; rfl
  have a2 : ad 2 = q2 := by rw [had]; rfl
  have a3 : ad 3 = q3 := by rw [had]; rfl
  have a4 : ad 4 = q4 := by rw [had]; rfl
  have a5 : ad 5 = q5 := by rw [had]; rfl
  have a6 : ad 6 = q6 := by rw [had]; rfl
  have a7 : ad 7 = q7 := by rw [had]; rfl
  have a8 : ad 8 = q8 := by rw [had]; rfl
  have a9 : ad 9 = q9 := by rw [had]; rfl
  have a10 : ad 10 = q10 := by rw [had]; rfl
  have a11 : ad 11 = q11 := by rw [had]; rfl
  have a12 : ad 12 = q12 := by rw [had]; rfl
  have hw : [(h0, .inr (3, [.ref q1, .ref q2, .ref q3, .ref q4, .ref q5, .ref q6, .ref q7, .ref q8, .ref q9, .ref q10, .ref q11, .int 0, .ref q12])), (q1, .inl (ca 0, 2, .inl (fun _ => 0))), (q2, .inl (ca 0, 2, .inl (fun _ => 0))), (q3, .inl (ca 1, 2, .inl (fun _ => 0))), (q4, .inl (ca 1, 2, .inl (fun _ => 0))), (q5, .inl (ca 0, 2, .inl (fun _ => 0))), (q6, .inl (ca 0, 2, .inl (fun _ => 0))), (q7, .inl (ca 0, 2, .inl (fun _ => 0))), (q8, .inl (ca 0, 128, .inl (fun _ => 0))), (q9, .inl (ca 0, 128, .inl (fun _ => 0))), (q10, .inl (ca 0, 128, .inl (fun _ => 0))), (q11, .inl (ca 0, 144, .inl (fun _ => 0))), (q12, .inl (ca 0, 9, .inl (fun _ => 0)))] = wD ca ad τZ := by
    rw [← a0, ← a1, ← a2, ← a3, ← a4, ← a5, ← a6, ← a7, ← a8, ← a9, ← a10, ← a11, ← a12]
    rfl
  rw [hw] at hP hD
  have I : In D A s.heap (wD ca ad τZ) H locs := ⟨hP, hD, hS⟩
  have X : Cx p m c b_D_init 1 s _ R_D D (tysD ca) := ⟨⟨hx, hb, hml, hown, hts⟩, hK, hK0.2⟩
  have hl : lv_has ls 1 [(0, .ref (ad 0))] := by rw [a0]; exact hl
  refine lv_aload_n hx hb d_D_init_97 rfl (lv_at hl 0 rfl) ?_
  refine dGetA 1 X I (by decide) (by decide) d_D_init_98 ?_
  refine lv_iconst (v := 0) hx hb d_D_init_101 (by decide) ?_
  refine lv_iconst (v := 2) hx hb d_D_init_102 (by decide) ?_
  refine dIast 1 X I (by decide) rfl (vi (by decide)) d_D_init_103 (fun H locs I => ?_)
  refine lv_aload_n hx hb d_D_init_104 rfl (lv_at hl 0 rfl) ?_
  refine dGetA 4 X I (by decide) (by decide) d_D_init_105 ?_
  refine lv_iconst (v := 0) hx hb d_D_init_108 (by decide) ?_
  refine lv_iconst (v := 1) hx hb d_D_init_109 (by decide) ?_
  refine dZast 4 X I (by decide) (vi (by decide)) rfl d_D_init_110 (fun H locs I => ?_)
  refine lv_aload_n hx hb d_D_init_111 rfl (lv_at hl 0 rfl) ?_
  refine dGetA 5 X I (by decide) (by decide) d_D_init_112 ?_
  refine lv_iconst (v := 0) hx hb d_D_init_115 (by decide) ?_
  refine lv_iconst (v := (-1)) hx hb d_D_init_116 (by decide) ?_
  refine dIast 5 X I (by decide) rfl (vi (by decide)) d_D_init_117 (fun H locs I => ?_)
  refine lv_aload_n hx hb d_D_init_118 rfl (lv_at hl 0 rfl) ?_
  refine dGetA 5 X I (by decide) (by decide) d_D_init_119 ?_
  refine lv_iconst (v := 1) hx hb d_D_init_122 (by decide) ?_
  refine lv_iconst (v := (-1)) hx hb d_D_init_123 (by decide) ?_
  refine dIast 5 X I (by decide) rfl (vi (by decide)) d_D_init_124 (fun H locs I => ?_)
  refine lv_aload_n hx hb d_D_init_125 rfl (lv_at hl 0 rfl) ?_
  refine dGetA 6 X I (by decide) (by decide) d_D_init_126 ?_
  refine lv_iconst (v := 0) hx hb d_D_init_129 (by decide) ?_
  refine lv_iconst (v := (-1)) hx hb d_D_init_130 (by decide) ?_
  refine dIast 6 X I (by decide) rfl (vi (by decide)) d_D_init_131 (fun H locs I => ?_)
  refine lv_aload_n hx hb d_D_init_132 rfl (lv_at hl 0 rfl) ?_
  refine dGetA 6 X I (by decide) (by decide) d_D_init_133 ?_
  refine lv_iconst (v := 1) hx hb d_D_init_136 (by decide) ?_
  refine lv_iconst (v := (-1)) hx hb d_D_init_137 (by decide) ?_
  refine dIast 6 X I (by decide) rfl (vi (by decide)) d_D_init_138 (fun H locs I => ?_)
  exact W.vret hx hb hr (fun t ht hW => ⟨⟨ad, rfl, a0, by rw [ht]; exact I.1, I.2.1⟩, I.2.2.F ht⟩) I.2.2.2.2 d_D_init_139
end
section
theorem va_P.chg {D : va_G} {cl : List vw_C} {ws : va_W} {H : Heap} {p a n : Nat} {cA : ClassId} {f g : Nat → Option Nat} (h : va_P D cl ws H) (hp : ws[p]? = some (a, .inl (cA, n, .inr (.inr (.inr (.inr f)))))) (hfg : ∀ j, j < n → f j = g j) : va_P D cl (ws.set p (a, .inl (cA, n, .inr (.inr (.inr (.inr g)))))) H := by
  intro k q hq
  rw [List.getElem?_set] at hq
  by_cases hk : p = k
  · rw [if_pos hk] at hq
    split at hq
    · cases hq
      have h1 : H[a]? = some (vp_cell cA (n, .inr (.inr (.inr (.inr f))))) := h p _ hp
      show H[a]? = some (vp_cell cA (n, .inr (.inr (.inr (.inr g)))))
      rw [h1, vp_cell_q, vp_cell_q]
      congr 1
      unfold arrV
      congr 1
      apply congrArg
      funext j
      show va_rf (f j.val) = va_rf (g j.val)
      rw [hfg j.val j.isLt]
    · cases hq
  · rw [if_neg hk] at hq
    exact h k q hq
/-- the nest's links to the two constructors, and the two classes of arrays -/
def CtN (U : State) : Prop := va_Nw (.methodLinkNest R_T 9 y_N_init R_T) U ∧ va_Nw (.methodLinkNest R_T 22 y_G_init R_T) U ∧ va_AO R_N U ∧ va_AO R_G U
theorem CtN.warm {s U : State} (hW : s.WarmedH U.vm) (h : CtN s) : CtN U := ⟨va_Nw.warmM hW h.1, va_Nw.warmM hW h.2.1, h.2.2.1.moved hW.alike, h.2.2.2.moved hW.alike⟩
theorem Pre.blindS {D : va_G} {tys : List (ClassId × FieldType)} {A : Nat → Prop} {ws : va_W} {av : List Value} {sz : Nat} : FrameBlind (va_Pc av (fun U => U.heap.size = sz ∧ Pre D tys A ws U)) := fun a U g mk q => by
  obtain ⟨q0, q1, qP, qK, qD⟩ := q
  exact ⟨q0, q1, qP, ⟨va_K.moved (u := U) (U := U.calling g mk a) (Vm.Alike.refl U.vm) qK.1, Nst.same (u := U) (U := U.calling g mk a) rfl qK.2⟩, qD⟩
theorem Pre.blindC {D : va_G} {tys : List (ClassId × FieldType)} {A : Nat → Prop} {ws : va_W} {av : List Value} {sz : Nat} : FrameBlind (va_Pc av (fun U => U.heap.size = sz ∧ Pre D tys A ws U ∧ CtN U)) := fun a U g mk q => by
  obtain ⟨q0, q1, ⟨qP, qK, qD⟩, qN⟩ := q
  exact ⟨q0, q1, ⟨qP, ⟨va_K.moved (u := U) (U := U.calling g mk a) (Vm.Alike.refl U.vm) qK.1, Nst.same (u := U) (U := U.calling g mk a) rfl qK.2⟩, qD⟩, va_Nw.same (u := U) (U := U.calling g mk a) rfl rfl qN.1, va_Nw.same (u := U) (U := U.calling g mk a) rfl rfl qN.2.1, qN.2.2.1.moved (u := U) (U := U.calling g mk a) (Vm.Alike.refl U.vm), qN.2.2.2.moved (u := U) (U := U.calling g mk a) (Vm.Alike.refl U.vm)⟩
theorem gCB {w : Cond} (h : w ∈ BASE) : GoodIn BASE (w :: BASE) := by
  intro v hv
  rcases List.mem_cons.mp hv with rfl | hv
  · exact ⟨h, gBB _ h⟩
  · exact ⟨hv, gBB _ hv⟩
def g0 : List Value := [.int 0, .int 0, .int 0, .int 0, .int 0, .int 0, .int 0, .int 0, .int 0]
def lnk (i : Nat) (μ : Nat → Nat) : Nat → Option Nat := fun k => if k < i then some (μ k) else none
def pl (i : Nat) (μ : Nat → Nat) : va_W := (List.range i).map (fun j => (μ j, .inr (2, g0)))
theorem lnk_s {i q : Nat} {μ : Nat → Nat} : lnk (i + 1) (va_up μ i q) = va_up (lnk i μ) i (some q) := by
  funext k
  unfold lnk va_up
  by_cases h : k = i
  · rw [if_pos (by omega), if_pos h, if_pos h]
  · rw [if_neg h, if_neg h]
    by_cases h2 : k < i
    · rw [if_pos (by omega)]
      exact (if_pos h2).symm
    · rw [if_neg (by omega)]
      exact (if_neg h2).symm
theorem pl_s {i q : Nat} {μ : Nat → Nat} : pl (i + 1) (va_up μ i q) = pl i μ ++ [(q, .inr (2, g0))] := by
  unfold pl
  rw [List.range_succ, List.map_append]
  congr 1
  · apply List.map_congr_left
    intro j hj
    have := List.mem_range.mp hj
    rw [va_up_ne _ _ (by omega)]
  · simp [va_up]
theorem pl_len {i : Nat} {μ : Nat → Nat} : (pl i μ).length = i := by simp [pl]
/-- TwinLog before its last two writes, and behind its constructor -/
def σZ : St := (0, fun _ k => if k = 5 then 1 else if k = 7 then -1 else if k = 8 then -1 else 0, fun _ _ => 0, fun _ _ => 0, fun i => i)
def σI : St := sn (sn σZ (0 : Int32).toNatClampNeg 0 2) (0 : Int32).toNatClampNeg 6 1
def X11 (ca : Nat → ClassId) (ad : Nat → Nat) (i : Nat) (μ : Nat → Nat) : va_W := [(ad 0, .inr (0, [.ref (ad 1), .ref (ad 2), .int 0])), (ad 1, .inl (ca 1, 2, .inr (.inr (.inr (.inr fun i => some (ad (3 + i))))))), (ad 2, .inl (ca 2, 17, .inr (.inr (.inr (.inr (lnk i μ)))))), (ad 3, .inr (1, nodeF ad σZ 0)), (ad 4, .inr (1, nodeF ad σZ 1)), (ad 5, .inl (ca 0, 64, .inl (fun _ => 0))), (ad 6, .inl (ca 0, 64, .inl (fun _ => 0))), (ad 7, .inl (ca 0, 64, .inl (fun _ => 0))), (ad 8, .inl (ca 0, 64, .inl (fun _ => 0))), (ad 9, .inl (ca 0, 64, .inl (fun _ => 0))), (ad 10, .inl (ca 0, 64, .inl (fun _ => 0)))]
theorem X11_at {ca : Nat → ClassId} {ad : Nat → Nat} {i : Nat} {μ : Nat → Nat} {w : va_W} (k : Nat) (h : k < 11) : (X11 ca ad i μ ++ w)[k]? = (X11 ca ad i μ)[k]? := List.getElem?_append_left h
/-- the eleven cells and the seventeen messages are the world -/
theorem X11_w {ca : Nat → ClassId} {ad : Nat → Nat} : (X11 ca ad 17 (fun j => ad (11 + j)) ++ pl 17 (fun j => ad (11 + j))).set 2 (ad 2, .inl (ca 2, 17, .inr (.inr (.inr (.inr fun i => some (ad (11 + lk σZ i))))))) = wT ca ad σZ := rfl

section LP
variable {p : Program} {l : Launch} {e : Env} {s : State} {m : MethodId} {args : Array Value} {below : List Frame} {meth : Method} {c : Code} {Q : State → Prop}
set_option maxHeartbeats 4000000 in
set_option maxRecDepth 100000 in
/-- the loop that makes the messages -/
theorem c_T_init_43 {D : va_G} {A : Nat → Prop} {ca : Nat → ClassId} {ad : Nat → Nat} (X : Cx p m c b_T_init 2 s args R_T D (tysT ca)) (hN : CtN s) (hA : ∀ q : Nat, s.heap.size ≤ q → A q)
    (hend : ∀ (μ : Nat → Nat) (H : Heap) (locs : List Loc) (ls : Array Slot), va_P D classes (X11 ca ad 17 μ ++ pl 17 μ) H → va_D A (X11 ca ad 17 μ ++ pl 17 μ) → va_S A s.heap H locs → lv_has ls 2 [(0, .ref (ad 0))] → W p l e ({ frames := 2, cells := 27, slots := 576, locals := 50 }) s m args below meth c H locs 27 576 Q (F0 m 71 ls [])) :
    ∀ (n i : Nat), i ≤ 17 → 17 - i < n → ∀ (μ : Nat → Nat) (H : Heap) (locs : List Loc) (ls : Array Slot), va_P D classes (X11 ca ad i μ ++ pl i μ) H → va_D A (X11 ca ad i μ ++ pl i μ) → va_S A s.heap H locs → lv_has ls 2 [(1, .int (nI i)), (0, .ref (ad 0))] → W p l e ({ frames := 2, cells := 27, slots := 576, locals := 50 }) s m args below meth c H locs (10 + i) (423 + 9 * i) Q (F0 m 43 ls []) := by
  obtain ⟨⟨hx, hb, hml, hown, hts⟩, hK, hNs⟩ := X
  intro n
  induction n with
  | zero => intro i h1 h2; exact absurd h2 (by omega)
  | succ n ih =>
    intro i hi hin μ H locs ls hP hD hS hl
    refine lv_iload_n hx hb d_T_init_43 rfl (lv_at hl 0 rfl) ?_
    refine lv_aload_n hx hb d_T_init_44 rfl (lv_at hl 1 rfl) ?_
    refine va_get (D := D) (ci := 0) (v := .ref (ad 2)) (C := R_T) (T := F_T) (N := 3) hx hb hts i_T hown hK hP 0 rfl rfl 1 (by decide) (hts _ (tIx_in 1 (by decide))) (fun _ h9 => h9) rfl d_T_init_45 ?_
    refine va_alen (v := nI 17) hx hb hK hP 2 2 rfl rfl rfl d_T_init_48 ?_
    refine lv_icmp_ge (tgt := 71) hx hb d_T_init_49 (by decide) (fun c_49 => ?_) (fun c_49 => ?_)
    · have h17 : i = 17 := by
        rw [nI_leI (by decide) (by omega)] at c_49
        omega
      subst h17
      exact hend μ H locs ls hP hD hS (lv_sub hl [1] rfl)
    · have hlt : i < 17 := by
        rw [nI_leI (by decide) (by omega)] at c_49
        omega
      refine lv_aload_n hx hb d_T_init_52 rfl (lv_at hl 1 rfl) ?_
      refine va_get (D := D) (ci := 0) (v := .ref (ad 2)) (C := R_T) (T := F_T) (N := 3) hx hb hts i_T hown hK hP 0 rfl rfl 1 (by decide) (hts _ (tIx_in 1 (by decide))) (fun _ h9 => h9) rfl d_T_init_53 ?_
      refine lv_iload_n hx hb d_T_init_56 rfl (lv_at hl 0 rfl) ?_
      refine va_new (ci := 2) (fs := g0) (C := R_G) (T := F_G) (N := 9) hx hb hts i_G ft_G ft_G_ok hown (hts _ (mB 77 rfl rfl)) (hts _ (mB 79 rfl rfl)) (hts _ (mB 17 rfl rfl)) hK hP hD hS hA rfl (fun j hj => by rcases (show j = 0 ∨ j = 1 ∨ j = 2 ∨ j = 3 ∨ j = 4 ∨ j = 5 ∨ j = 6 ∨ j = 7 ∨ j = 8 by omega) with rfl | rfl | rfl | rfl | rfl | rfl | rfl | rfl | rfl <;> rfl) (by show 10 + i + 1 ≤ 27; omega) (by show 423 + 9 * i + 9 ≤ 576; omega) d_T_init_57 (fun q H hP hD hS => ?_)
      refine W.widen (k := 10 + (i + 1)) (n := 423 + 9 * (i + 1)) (by omega) (by omega) ?_
      refine lv_dup hx hb d_T_init_60 rfl ?_
      refine goV (wf := fun _ : Unit => (X11 ca ad i μ ++ pl i μ) ++ [(q, .inr (2, g0))]) ⟨hP, hD, hS⟩ (va_runIN (As := []) (rest := [.ref q, .int (nI i), .ref (ad 2)]) ⟨hx, hb, hml, hown, hts⟩ (c_G_init l D A (tysT ca) _ q) ⟨va_cnB 0 hts (gCB (mB 82 rfl rfl)) rfl rfl rfl hN.2.1 (hts _ (mB 17 rfl rfl)) (by decide +kernel) ⟨Nat.le_of_ble_eq_true rfl, Nat.le_of_ble_eq_true rfl⟩, rfl, hts _ (mB 81 rfl rfl)⟩ ⟨Pre.blind, fun U hU hW => Pre.warm hP ⟨hK, hNs⟩ hD hU hW⟩ rfl rfl hl.1 rfl (lv_room (Nat.le_of_ble_eq_true rfl)) d_T_init_61 ⟨by show 10 + (i + 1) ≤ 27; omega, by show 423 + 9 * (i + 1) ≤ 576; omega⟩) (fun _ H locs _ I => ?_)
      obtain ⟨hP, hD, hS⟩ := I
      have hq : ((X11 ca ad i μ ++ pl i μ) ++ [(q, .inr (2, g0))])[11 + i]? = some (q, .inr (2, g0)) := by
        rw [List.getElem?_append_right (by rw [List.length_append, pl_len]; exact Nat.le_refl _), List.length_append, pl_len]
        show [(q, (.inr (2, g0) : va_E))][11 + i - (11 + i)]? = _
        rw [Nat.sub_self]
        rfl
      refine va_astq (r := (R_G, F_G, 9)) hx hb hK hP hD hS 2 2 (11 + i) 2 rfl rfl hq rfl (vp_in_nI hlt (by decide)) d_T_init_64 (fun H locs hP hD hS => ?_)
      rw [nI_clamp (by omega), ← lnk_s] at hP hD
      have ew : ((X11 ca ad i μ ++ pl i μ) ++ [((q, .inr (2, g0)) : Nat × va_E)]).set 2 (ad 2, .inl (ca 2, 17, .inr (.inr (.inr (.inr (lnk (i + 1) (va_up μ i q))))))) = X11 ca ad (i + 1) (va_up μ i q) ++ pl (i + 1) (va_up μ i q) := by
        rw [pl_s, List.append_assoc]
        rfl
      rw [ew] at hP hD
      refine lv_iinc (v := nI (i + 1)) (lv' := [(1, .int (nI (i + 1))), (0, .ref (ad 0))]) hx hb d_T_init_65 hl (k := 0) rfl (nI_1 i) (by decide) rfl (fun ls hl => ?_)
      refine lv_goto (tgt := 43) hx hb d_T_init_68 (by decide) ?_
      exact ih (i + 1) (by omega) (by omega) _ H locs ls hP hD hS hl
end LP
set_option maxHeartbeats 4000000 in
set_option maxRecDepth 100000 in
/-- TwinLog(): its world -/
theorem c_T_init (l : Launch) (D : va_G) (ca : Nat → ClassId) (A : Nat → Prop) (h0 sz : Nat) (hA : ∀ q : Nat, sz ≤ q → A q) : Met l y_T_init (Cond.code y_T_init b_T_init 2 none :: BASE) ({ frames := 2, cells := 27, slots := 576, locals := 50 }) (va_Pc [.ref h0] (fun U => U.heap.size = sz ∧ Pre D (tysT ca) A [(h0, .inr (0, [.null, .null, .int 0]))] U ∧ CtN U)) (va_Qv (fun ad : Nat → Nat => ad 0 = h0) (Pst D A (fun ad => wT ca ad σI)) A) 27 576 A := by
  refine Met.ofW (cc := b_T_init) (maxL := 2) (ret := none) (by decide) rfl ?_
  intro p e s m args below meth c s₁ B hml hv
  obtain ⟨rfl, hsz, ⟨hP, hK0, hD⟩, hN⟩ := hv
  have hx := B.exec
  have hb := B.bytes
  have hr := B.returns
  have hts0 := atoms_spec (ws := Cond.code y_T_init b_T_init 2 none :: BASE) B.pre
  have hts : ∀ w ∈ BASE, w.before _ s = true := fun w hw => hts0 w (List.mem_cons_of_mem _ hw)
  have hown : s.vm.findClass R_T = some m.cls := findClass_of_methodNamed B.named
  have hlocks := B.notSynchronized
  have hin : meth.name = "<init>" := (name_of_methodNamed B.named B.method).1
  subst hsz
  have hS : va_S A s.heap s.heap [] := va_S.rf
  have hK := hK0.1
  have hl := lv_entry ([.ref h0]) (n := 2) (Nat.le_of_ble_eq_true rfl)
  rw [lg_entry_eq]
  generalize (lg_sl ([.ref h0]) ++ List.replicate (2 - (lg_sl ([.ref h0])).length) Slot.unset).toArray = ls at hl ⊢
  have hl : lv_has ls 2 [(0, .ref h0)] := hl
  refine lv_aload_n hx hb d_T_init_0 rfl (lv_at hl 0 rfl) ?_
  refine W.objInit hx hb hown (hts _ (mB 25 rfl rfl)) (hts _ (mB 26 rfl rfl)) (hts _ (mB 27 rfl rfl)) rfl (by rw [hml]; exact hl.1) rfl d_T_init_1 (Nat.le_of_ble_eq_true rfl) (Nat.le_of_ble_eq_true rfl) ?_
  refine W.eq (g2 := F0 m 4 ls []) rfl ?_
  refine lv_aload_n hx hb d_T_init_4 rfl (lv_at hl 0 rfl) ?_
  refine lv_iconst (v := 2) hx hb d_T_init_5 (by decide) ?_
  refine va_newq (C := R_N) (N' := 2) hx hb hown (hts _ (mB 28 rfl rfl)) hN.2.2.1 hK hP hD hS hA (by decide) (by decide) (by decide) (Nat.le_of_ble_eq_true rfl) (Nat.le_of_ble_eq_true rfl) d_T_init_6 (fun q1 cA H hK hP hD hS => ?_)
  obtain rfl : cA = ca 1 := va_K3 hK (i := 3) (j := 1) rfl rfl
  have hK := hK.sub (tys' := tysT ca) [0, 1, 2] rfl
  refine W.widen (k := 1) (n := 2) (Nat.le_of_ble_eq_true rfl) (Nat.le_of_ble_eq_true rfl) ?_
  have hP : va_P D classes [(h0, .inr (0, [.null, .null, .int 0])), (q1, .inl (ca 1, 2, .inr (.inr (.inr (.inr (fun _ => none))))))] H := hP
  have hD : va_D A [(h0, .inr (0, [.null, .null, .int 0])), (q1, .inl (ca 1, 2, .inr (.inr (.inr (.inr (fun _ => none))))))] := hD
  refine lv_dup hx hb d_T_init_9 rfl ?_
  refine lv_iconst (v := 0) hx hb d_T_init_10 (by decide) ?_
  refine va_new (ci := 1) (fs := nd0) (C := R_N) (T := F_N) (N := 10) hx hb hts i_N ft_N ft_N_ok hown (hts _ (mB 28 rfl rfl)) (hts _ (mB 30 rfl rfl)) (hts _ (mB 16 rfl rfl)) hK hP hD hS hA rfl (fun j hj => by rcases (show j = 0 ∨ j = 1 ∨ j = 2 ∨ j = 3 ∨ j = 4 ∨ j = 5 ∨ j = 6 ∨ j = 7 ∨ j = 8 ∨ j = 9 by omega) with rfl | rfl | rfl | rfl | rfl | rfl | rfl | rfl | rfl | rfl <;> rfl) (Nat.le_of_ble_eq_true rfl) (Nat.le_of_ble_eq_true rfl) d_T_init_11 (fun n0 H hP hD hS => ?_)
  have hP : va_P D classes [(h0, .inr (0, [.null, .null, .int 0])), (q1, .inl (ca 1, 2, .inr (.inr (.inr (.inr (fun _ => none)))))), (n0, .inr (1, nd0))] H := hP
  have hD : va_D A [(h0, .inr (0, [.null, .null, .int 0])), (q1, .inl (ca 1, 2, .inr (.inr (.inr (.inr (fun _ => none)))))), (n0, .inr (1, nd0))] := hD
  refine W.widen (k := 2) (n := 12) (Nat.le_of_ble_eq_true rfl) (Nat.le_of_ble_eq_true rfl) ?_
  refine lv_dup hx hb d_T_init_14 rfl ?_
  have hPc := hP.sub (ws' := [(n0, .inr (1, nd0))]) [2] rfl
  have hDc := hD.sub (ws' := [(n0, .inr (1, nd0))]) [2] (by decide) rfl
  have hFc := va_free (wc := [(n0, .inr (1, nd0))]) hD hS hA [2] rfl
  refine va_callv (va_runIN (As := []) (rest := [.ref n0, .int 0, .ref q1, .ref q1, .ref h0]) ⟨hx, hb, hml, hown, hts⟩ (c_N_init l D ca (va_A [(n0, .inr (1, nd0))] H.size) n0 H.size (fun q h => Or.inr h)) ⟨va_cnB 0 hts (gCB (mB 33 rfl rfl)) rfl rfl rfl hN.1 (hts _ (mB 16 rfl rfl)) (by decide +kernel) ⟨Nat.le_of_ble_eq_true rfl, Nat.le_of_ble_eq_true rfl⟩, rfl, hts _ (mB 32 rfl rfl)⟩ ⟨Pre.blindS, fun U hU hW => ⟨rfl, by rw [hU], by rw [hU]; exact hPc, ⟨va_K.moved hW.alike hK, hK0.2.warm hW⟩, hDc.self⟩⟩ rfl rfl hl.1 rfl (lv_room (Nat.le_of_ble_eq_true rfl)) d_T_init_15 ⟨Nat.le_of_ble_eq_true rfl, Nat.le_of_ble_eq_true rfl⟩) hS (fun q _ h => hFc q h) hFc (fun u t H1 locs ht hvm hw hB hz1 hk1 hS => ?_)
  obtain ⟨u0, v0, w0⟩ := u
  obtain ⟨hP1, hD1⟩ := hB
  rw [ht] at hP1
  obtain ⟨hP, hD⟩ := va_join (wr := [(h0, .inr (0, [.null, .null, .int 0])), (q1, .inl (ca 1, 2, .inr (.inr (.inr (.inr (fun _ => none))))))]) (w1 := ndw ca n0 (u0, v0, w0)) hP hD [2] [0, 1] rfl rfl (by decide) (by decide) hk1 hFc hP1 hD1
  generalize H1 = H at hP hS ⊢
  have hP : va_P D classes [(h0, .inr (0, [.null, .null, .int 0])), (q1, .inl (ca 1, 2, .inr (.inr (.inr (.inr (fun _ => none)))))), (n0, .inr (1, [.int 0, .ref u0, .ref v0, .ref w0, .int 0, .int 1, .int 0, .int (-1), .int (-1), .int 0])), (u0, .inl (ca 0, 64, .inl (fun _ => 0))), (v0, .inl (ca 0, 64, .inl (fun _ => 0))), (w0, .inl (ca 0, 64, .inl (fun _ => 0)))] H := hP
  have hD : va_D A [(h0, .inr (0, [.null, .null, .int 0])), (q1, .inl (ca 1, 2, .inr (.inr (.inr (.inr (fun _ => none)))))), (n0, .inr (1, [.int 0, .ref u0, .ref v0, .ref w0, .int 0, .int 1, .int 0, .int (-1), .int (-1), .int 0])), (u0, .inl (ca 0, 64, .inl (fun _ => 0))), (v0, .inl (ca 0, 64, .inl (fun _ => 0))), (w0, .inl (ca 0, 64, .inl (fun _ => 0)))] := hD
  refine W.widen (k := 5) (n := 204) (Nat.le_of_ble_eq_true rfl) (Nat.le_of_ble_eq_true rfl) ?_
  refine va_astq (r := (R_N, F_N, 10)) hx hb hK hP hD hS 1 1 2 1 rfl rfl rfl rfl (vi (by decide)) d_T_init_18 (fun H locs hP hD hS => ?_)
  have hP : va_P D classes [(h0, .inr (0, [.null, .null, .int 0])), (q1, .inl (ca 1, 2, .inr (.inr (.inr (.inr (va_up (fun _ => none) (0 : Int32).toNatClampNeg (some n0))))))), (n0, .inr (1, [.int 0, .ref u0, .ref v0, .ref w0, .int 0, .int 1, .int 0, .int (-1), .int (-1), .int 0])), (u0, .inl (ca 0, 64, .inl (fun _ => 0))), (v0, .inl (ca 0, 64, .inl (fun _ => 0))), (w0, .inl (ca 0, 64, .inl (fun _ => 0)))] H := hP
  have hD : va_D A [(h0, .inr (0, [.null, .null, .int 0])), (q1, .inl (ca 1, 2, .inr (.inr (.inr (.inr (va_up (fun _ => none) (0 : Int32).toNatClampNeg (some n0))))))), (n0, .inr (1, [.int 0, .ref u0, .ref v0, .ref w0, .int 0, .int 1, .int 0, .int (-1), .int (-1), .int 0])), (u0, .inl (ca 0, 64, .inl (fun _ => 0))), (v0, .inl (ca 0, 64, .inl (fun _ => 0))), (w0, .inl (ca 0, 64, .inl (fun _ => 0)))] := hD
  refine lv_dup hx hb d_T_init_19 rfl ?_
  refine lv_iconst (v := 1) hx hb d_T_init_20 (by decide) ?_
  refine va_new (ci := 1) (fs := nd0) (C := R_N) (T := F_N) (N := 10) hx hb hts i_N ft_N ft_N_ok hown (hts _ (mB 28 rfl rfl)) (hts _ (mB 30 rfl rfl)) (hts _ (mB 16 rfl rfl)) hK hP hD hS hA rfl (fun j hj => by rcases (show j = 0 ∨ j = 1 ∨ j = 2 ∨ j = 3 ∨ j = 4 ∨ j = 5 ∨ j = 6 ∨ j = 7 ∨ j = 8 ∨ j = 9 by omega) with rfl | rfl | rfl | rfl | rfl | rfl | rfl | rfl | rfl | rfl <;> rfl) (Nat.le_of_ble_eq_true rfl) (Nat.le_of_ble_eq_true rfl) d_T_init_21 (fun n1 H hP hD hS => ?_)
  have hP : va_P D classes [(h0, .inr (0, [.null, .null, .int 0])), (q1, .inl (ca 1, 2, .inr (.inr (.inr (.inr (va_up (fun _ => none) (0 : Int32).toNatClampNeg (some n0))))))), (n0, .inr (1, [.int 0, .ref u0, .ref v0, .ref w0, .int 0, .int 1, .int 0, .int (-1), .int (-1), .int 0])), (u0, .inl (ca 0, 64, .inl (fun _ => 0))), (v0, .inl (ca 0, 64, .inl (fun _ => 0))), (w0, .inl (ca 0, 64, .inl (fun _ => 0))), (n1, .inr (1, nd0))] H := hP
  have hD : va_D A [(h0, .inr (0, [.null, .null, .int 0])), (q1, .inl (ca 1, 2, .inr (.inr (.inr (.inr (va_up (fun _ => none) (0 : Int32).toNatClampNeg (some n0))))))), (n0, .inr (1, [.int 0, .ref u0, .ref v0, .ref w0, .int 0, .int 1, .int 0, .int (-1), .int (-1), .int 0])), (u0, .inl (ca 0, 64, .inl (fun _ => 0))), (v0, .inl (ca 0, 64, .inl (fun _ => 0))), (w0, .inl (ca 0, 64, .inl (fun _ => 0))), (n1, .inr (1, nd0))] := hD
  refine W.widen (k := 6) (n := 214) (Nat.le_of_ble_eq_true rfl) (Nat.le_of_ble_eq_true rfl) ?_
  refine lv_dup hx hb d_T_init_24 rfl ?_
  have hPc := hP.sub (ws' := [(n1, .inr (1, nd0))]) [6] rfl
  have hDc := hD.sub (ws' := [(n1, .inr (1, nd0))]) [6] (by decide) rfl
  have hFc := va_free (wc := [(n1, .inr (1, nd0))]) hD hS hA [6] rfl
  refine va_callv (va_runIN (As := []) (rest := [.ref n1, .int 1, .ref q1, .ref q1, .ref h0]) ⟨hx, hb, hml, hown, hts⟩ (c_N_init l D ca (va_A [(n1, .inr (1, nd0))] H.size) n1 H.size (fun q h => Or.inr h)) ⟨va_cnB 0 hts (gCB (mB 33 rfl rfl)) rfl rfl rfl hN.1 (hts _ (mB 16 rfl rfl)) (by decide +kernel) ⟨Nat.le_of_ble_eq_true rfl, Nat.le_of_ble_eq_true rfl⟩, rfl, hts _ (mB 32 rfl rfl)⟩ ⟨Pre.blindS, fun U hU hW => ⟨rfl, by rw [hU], by rw [hU]; exact hPc, ⟨va_K.moved hW.alike hK, hK0.2.warm hW⟩, hDc.self⟩⟩ rfl rfl hl.1 rfl (lv_room (Nat.le_of_ble_eq_true rfl)) d_T_init_25 ⟨Nat.le_of_ble_eq_true rfl, Nat.le_of_ble_eq_true rfl⟩) hS (fun q _ h => hFc q h) hFc (fun u t H1 locs ht hvm hw hB hz1 hk1 hS => ?_)
  obtain ⟨u1, v1, w1⟩ := u
  obtain ⟨hP1, hD1⟩ := hB
  rw [ht] at hP1
  obtain ⟨hP, hD⟩ := va_join (wr := [(h0, .inr (0, [.null, .null, .int 0])), (q1, .inl (ca 1, 2, .inr (.inr (.inr (.inr (va_up (fun _ => none) (0 : Int32).toNatClampNeg (some n0))))))), (n0, .inr (1, [.int 0, .ref u0, .ref v0, .ref w0, .int 0, .int 1, .int 0, .int (-1), .int (-1), .int 0])), (u0, .inl (ca 0, 64, .inl (fun _ => 0))), (v0, .inl (ca 0, 64, .inl (fun _ => 0))), (w0, .inl (ca 0, 64, .inl (fun _ => 0)))]) (w1 := ndw ca n1 (u1, v1, w1)) hP hD [6] [0, 1, 2, 3, 4, 5] rfl rfl (by decide) (by decide) hk1 hFc hP1 hD1
  generalize H1 = H at hP hS ⊢
  have hP : va_P D classes [(h0, .inr (0, [.null, .null, .int 0])), (q1, .inl (ca 1, 2, .inr (.inr (.inr (.inr (va_up (fun _ => none) (0 : Int32).toNatClampNeg (some n0))))))), (n0, .inr (1, [.int 0, .ref u0, .ref v0, .ref w0, .int 0, .int 1, .int 0, .int (-1), .int (-1), .int 0])), (u0, .inl (ca 0, 64, .inl (fun _ => 0))), (v0, .inl (ca 0, 64, .inl (fun _ => 0))), (w0, .inl (ca 0, 64, .inl (fun _ => 0))), (n1, .inr (1, [.int 0, .ref u1, .ref v1, .ref w1, .int 0, .int 1, .int 0, .int (-1), .int (-1), .int 0])), (u1, .inl (ca 0, 64, .inl (fun _ => 0))), (v1, .inl (ca 0, 64, .inl (fun _ => 0))), (w1, .inl (ca 0, 64, .inl (fun _ => 0)))] H := hP
  have hD : va_D A [(h0, .inr (0, [.null, .null, .int 0])), (q1, .inl (ca 1, 2, .inr (.inr (.inr (.inr (va_up (fun _ => none) (0 : Int32).toNatClampNeg (some n0))))))), (n0, .inr (1, [.int 0, .ref u0, .ref v0, .ref w0, .int 0, .int 1, .int 0, .int (-1), .int (-1), .int 0])), (u0, .inl (ca 0, 64, .inl (fun _ => 0))), (v0, .inl (ca 0, 64, .inl (fun _ => 0))), (w0, .inl (ca 0, 64, .inl (fun _ => 0))), (n1, .inr (1, [.int 0, .ref u1, .ref v1, .ref w1, .int 0, .int 1, .int 0, .int (-1), .int (-1), .int 0])), (u1, .inl (ca 0, 64, .inl (fun _ => 0))), (v1, .inl (ca 0, 64, .inl (fun _ => 0))), (w1, .inl (ca 0, 64, .inl (fun _ => 0)))] := hD
  refine W.widen (k := 9) (n := 406) (Nat.le_of_ble_eq_true rfl) (Nat.le_of_ble_eq_true rfl) ?_
  refine va_astq (r := (R_N, F_N, 10)) hx hb hK hP hD hS 1 1 6 1 rfl rfl rfl rfl (vi (by decide)) d_T_init_28 (fun H locs hP hD hS => ?_)
  have hP : va_P D classes [(h0, .inr (0, [.null, .null, .int 0])), (q1, .inl (ca 1, 2, .inr (.inr (.inr (.inr (va_up (va_up (fun _ => none) (0 : Int32).toNatClampNeg (some n0)) (1 : Int32).toNatClampNeg (some n1))))))), (n0, .inr (1, [.int 0, .ref u0, .ref v0, .ref w0, .int 0, .int 1, .int 0, .int (-1), .int (-1), .int 0])), (u0, .inl (ca 0, 64, .inl (fun _ => 0))), (v0, .inl (ca 0, 64, .inl (fun _ => 0))), (w0, .inl (ca 0, 64, .inl (fun _ => 0))), (n1, .inr (1, [.int 0, .ref u1, .ref v1, .ref w1, .int 0, .int 1, .int 0, .int (-1), .int (-1), .int 0])), (u1, .inl (ca 0, 64, .inl (fun _ => 0))), (v1, .inl (ca 0, 64, .inl (fun _ => 0))), (w1, .inl (ca 0, 64, .inl (fun _ => 0)))] H := hP
  have hD : va_D A [(h0, .inr (0, [.null, .null, .int 0])), (q1, .inl (ca 1, 2, .inr (.inr (.inr (.inr (va_up (va_up (fun _ => none) (0 : Int32).toNatClampNeg (some n0)) (1 : Int32).toNatClampNeg (some n1))))))), (n0, .inr (1, [.int 0, .ref u0, .ref v0, .ref w0, .int 0, .int 1, .int 0, .int (-1), .int (-1), .int 0])), (u0, .inl (ca 0, 64, .inl (fun _ => 0))), (v0, .inl (ca 0, 64, .inl (fun _ => 0))), (w0, .inl (ca 0, 64, .inl (fun _ => 0))), (n1, .inr (1, [.int 0, .ref u1, .ref v1, .ref w1, .int 0, .int 1, .int 0, .int (-1), .int (-1), .int 0])), (u1, .inl (ca 0, 64, .inl (fun _ => 0))), (v1, .inl (ca 0, 64, .inl (fun _ => 0))), (w1, .inl (ca 0, 64, .inl (fun _ => 0)))] := hD
  refine va_putF (D := D) (ci := 0) (v := .ref q1) (ty := .array (.object "TwinLog$Node")) (C := R_T) (T := F_T) (N := 3) hx hb hts i_T ft_T ft_T_ok n_T hown hK hP hD hS 0 rfl rfl 0 (by decide) (hts _ (tIx_in 0 (by decide))) (fun _ h9 => h9) rfl hin rfl (by decide +kernel) rfl rfl (Nat.le_of_ble_eq_true rfl) d_T_init_29 (fun H locs hP hD hS => ?_)
  have hP : va_P D classes [(h0, .inr (0, [.ref q1, .null, .int 0])), (q1, .inl (ca 1, 2, .inr (.inr (.inr (.inr (va_up (va_up (fun _ => none) (0 : Int32).toNatClampNeg (some n0)) (1 : Int32).toNatClampNeg (some n1))))))), (n0, .inr (1, [.int 0, .ref u0, .ref v0, .ref w0, .int 0, .int 1, .int 0, .int (-1), .int (-1), .int 0])), (u0, .inl (ca 0, 64, .inl (fun _ => 0))), (v0, .inl (ca 0, 64, .inl (fun _ => 0))), (w0, .inl (ca 0, 64, .inl (fun _ => 0))), (n1, .inr (1, [.int 0, .ref u1, .ref v1, .ref w1, .int 0, .int 1, .int 0, .int (-1), .int (-1), .int 0])), (u1, .inl (ca 0, 64, .inl (fun _ => 0))), (v1, .inl (ca 0, 64, .inl (fun _ => 0))), (w1, .inl (ca 0, 64, .inl (fun _ => 0)))] H := hP
  have hD : va_D A [(h0, .inr (0, [.ref q1, .null, .int 0])), (q1, .inl (ca 1, 2, .inr (.inr (.inr (.inr (va_up (va_up (fun _ => none) (0 : Int32).toNatClampNeg (some n0)) (1 : Int32).toNatClampNeg (some n1))))))), (n0, .inr (1, [.int 0, .ref u0, .ref v0, .ref w0, .int 0, .int 1, .int 0, .int (-1), .int (-1), .int 0])), (u0, .inl (ca 0, 64, .inl (fun _ => 0))), (v0, .inl (ca 0, 64, .inl (fun _ => 0))), (w0, .inl (ca 0, 64, .inl (fun _ => 0))), (n1, .inr (1, [.int 0, .ref u1, .ref v1, .ref w1, .int 0, .int 1, .int 0, .int (-1), .int (-1), .int 0])), (u1, .inl (ca 0, 64, .inl (fun _ => 0))), (v1, .inl (ca 0, 64, .inl (fun _ => 0))), (w1, .inl (ca 0, 64, .inl (fun _ => 0)))] := hD
  refine lv_aload_n hx hb d_T_init_32 rfl (lv_at hl 0 rfl) ?_
  refine lv_bipush (v := 17) hx hb d_T_init_33 (by decide) ?_
  refine va_newq (C := R_G) (N' := 17) hx hb hown (hts _ (mB 77 rfl rfl)) hN.2.2.2 hK hP hD hS hA (by decide) (by decide) (by decide) (Nat.le_of_ble_eq_true rfl) (Nat.le_of_ble_eq_true rfl) d_T_init_35 (fun q2 cA H hK hP hD hS => ?_)
  obtain rfl : cA = ca 2 := va_K3 hK (i := 3) (j := 2) rfl rfl
  have hK := hK.sub (tys' := tysT ca) [0, 1, 2] rfl
  refine W.widen (k := 10) (n := 423) (Nat.le_of_ble_eq_true rfl) (Nat.le_of_ble_eq_true rfl) ?_
  have hP : va_P D classes [(h0, .inr (0, [.ref q1, .null, .int 0])), (q1, .inl (ca 1, 2, .inr (.inr (.inr (.inr (va_up (va_up (fun _ => none) (0 : Int32).toNatClampNeg (some n0)) (1 : Int32).toNatClampNeg (some n1))))))), (n0, .inr (1, [.int 0, .ref u0, .ref v0, .ref w0, .int 0, .int 1, .int 0, .int (-1), .int (-1), .int 0])), (u0, .inl (ca 0, 64, .inl (fun _ => 0))), (v0, .inl (ca 0, 64, .inl (fun _ => 0))), (w0, .inl (ca 0, 64, .inl (fun _ => 0))), (n1, .inr (1, [.int 0, .ref u1, .ref v1, .ref w1, .int 0, .int 1, .int 0, .int (-1), .int (-1), .int 0])), (u1, .inl (ca 0, 64, .inl (fun _ => 0))), (v1, .inl (ca 0, 64, .inl (fun _ => 0))), (w1, .inl (ca 0, 64, .inl (fun _ => 0))), (q2, .inl (ca 2, 17, .inr (.inr (.inr (.inr (fun _ => none))))))] H := hP
  have hD : va_D A [(h0, .inr (0, [.ref q1, .null, .int 0])), (q1, .inl (ca 1, 2, .inr (.inr (.inr (.inr (va_up (va_up (fun _ => none) (0 : Int32).toNatClampNeg (some n0)) (1 : Int32).toNatClampNeg (some n1))))))), (n0, .inr (1, [.int 0, .ref u0, .ref v0, .ref w0, .int 0, .int 1, .int 0, .int (-1), .int (-1), .int 0])), (u0, .inl (ca 0, 64, .inl (fun _ => 0))), (v0, .inl (ca 0, 64, .inl (fun _ => 0))), (w0, .inl (ca 0, 64, .inl (fun _ => 0))), (n1, .inr (1, [.int 0, .ref u1, .ref v1, .ref w1, .int 0, .int 1, .int 0, .int (-1), .int (-1), .int 0])), (u1, .inl (ca 0, 64, .inl (fun _ => 0))), (v1, .inl (ca 0, 64, .inl (fun _ => 0))), (w1, .inl (ca 0, 64, .inl (fun _ => 0))), (q2, .inl (ca 2, 17, .inr (.inr (.inr (.inr (fun _ => none))))))] := hD
  refine va_putF (D := D) (ci := 0) (v := .ref q2) (ty := .array (.object "TwinLog$Message")) (C := R_T) (T := F_T) (N := 3) hx hb hts i_T ft_T ft_T_ok n_T hown hK hP hD hS 0 rfl rfl 1 (by decide) (hts _ (tIx_in 1 (by decide))) (fun _ h9 => h9) rfl hin rfl (by decide +kernel) rfl rfl (Nat.le_of_ble_eq_true rfl) d_T_init_38 (fun H locs hP hD hS => ?_)
  have hP : va_P D classes [(h0, .inr (0, [.ref q1, .ref q2, .int 0])), (q1, .inl (ca 1, 2, .inr (.inr (.inr (.inr (va_up (va_up (fun _ => none) (0 : Int32).toNatClampNeg (some n0)) (1 : Int32).toNatClampNeg (some n1))))))), (n0, .inr (1, [.int 0, .ref u0, .ref v0, .ref w0, .int 0, .int 1, .int 0, .int (-1), .int (-1), .int 0])), (u0, .inl (ca 0, 64, .inl (fun _ => 0))), (v0, .inl (ca 0, 64, .inl (fun _ => 0))), (w0, .inl (ca 0, 64, .inl (fun _ => 0))), (n1, .inr (1, [.int 0, .ref u1, .ref v1, .ref w1, .int 0, .int 1, .int 0, .int (-1), .int (-1), .int 0])), (u1, .inl (ca 0, 64, .inl (fun _ => 0))), (v1, .inl (ca 0, 64, .inl (fun _ => 0))), (w1, .inl (ca 0, 64, .inl (fun _ => 0))), (q2, .inl (ca 2, 17, .inr (.inr (.inr (.inr (fun _ => none))))))] H := hP
  have hD : va_D A [(h0, .inr (0, [.ref q1, .ref q2, .int 0])), (q1, .inl (ca 1, 2, .inr (.inr (.inr (.inr (va_up (va_up (fun _ => none) (0 : Int32).toNatClampNeg (some n0)) (1 : Int32).toNatClampNeg (some n1))))))), (n0, .inr (1, [.int 0, .ref u0, .ref v0, .ref w0, .int 0, .int 1, .int 0, .int (-1), .int (-1), .int 0])), (u0, .inl (ca 0, 64, .inl (fun _ => 0))), (v0, .inl (ca 0, 64, .inl (fun _ => 0))), (w0, .inl (ca 0, 64, .inl (fun _ => 0))), (n1, .inr (1, [.int 0, .ref u1, .ref v1, .ref w1, .int 0, .int 1, .int 0, .int (-1), .int (-1), .int 0])), (u1, .inl (ca 0, 64, .inl (fun _ => 0))), (v1, .inl (ca 0, 64, .inl (fun _ => 0))), (w1, .inl (ca 0, 64, .inl (fun _ => 0))), (q2, .inl (ca 2, 17, .inr (.inr (.inr (.inr (fun _ => none))))))] := hD
  obtain ⟨ad, had⟩ : ∃ ad : Nat → Nat, ad = fun j => [h0, q1, q2, n0, n1, u0, v0, w0, u1, v1, w1].getD j 0 := ⟨_, rfl⟩
  have a0 : ad 0 = h0 := by rw [had]; rfl
  have a1 : ad 1 = q1 := by rw [had]; rfl
  have a2 : ad 2 = q2 := by rw [had]; rfl
  have a3 : ad 3 = n0 := by rw [had]; rfl
  have a4 : ad 4 = n1 := by rw [had]; rfl
  have a5 : ad 5 = u0 := by rw [had]; rfl
  have a6 : ad 6 = v0 := by rw [had]; rfl
  have a7 : ad 7 = w0 := by rw [had]; rfl
  have a8 : ad 8 = u1 := by rw [had]; rfl
  have a9 : ad 9 = v1 := by rw [had]; rfl
  have a10 : ad 10 = w1 := by rw [had]; rfl
  have hP := hP.chg (p := 1) (g := fun i => some (ad (3 + i))) rfl (fun j hj => by rcases (show j = 0 ∨ j = 1 by omega) with rfl | rfl <;> rw [had] <;> rfl)
  have hD := hD.set (p := 1) (a := q1) (e := .inl (ca 1, 2, .inr (.inr (.inr (.inr fun i => some (ad (3 + i))))))) rfl
  have hP : va_P D classes [(h0, .inr (0, [.ref q1, .ref q2, .int 0])), (q1, .inl (ca 1, 2, .inr (.inr (.inr (.inr (fun i => some (ad (3 + i)))))))), (n0, .inr (1, [.int 0, .ref u0, .ref v0, .ref w0, .int 0, .int 1, .int 0, .int (-1), .int (-1), .int 0])), (u0, .inl (ca 0, 64, .inl (fun _ => 0))), (v0, .inl (ca 0, 64, .inl (fun _ => 0))), (w0, .inl (ca 0, 64, .inl (fun _ => 0))), (n1, .inr (1, [.int 0, .ref u1, .ref v1, .ref w1, .int 0, .int 1, .int 0, .int (-1), .int (-1), .int 0])), (u1, .inl (ca 0, 64, .inl (fun _ => 0))), (v1, .inl (ca 0, 64, .inl (fun _ => 0))), (w1, .inl (ca 0, 64, .inl (fun _ => 0))), (q2, .inl (ca 2, 17, .inr (.inr (.inr (.inr (fun _ => none))))))] H := hP
  have hD : va_D A [(h0, .inr (0, [.ref q1, .ref q2, .int 0])), (q1, .inl (ca 1, 2, .inr (.inr (.inr (.inr (fun i => some (ad (3 + i)))))))), (n0, .inr (1, [.int 0, .ref u0, .ref v0, .ref w0, .int 0, .int 1, .int 0, .int (-1), .int (-1), .int 0])), (u0, .inl (ca 0, 64, .inl (fun _ => 0))), (v0, .inl (ca 0, 64, .inl (fun _ => 0))), (w0, .inl (ca 0, 64, .inl (fun _ => 0))), (n1, .inr (1, [.int 0, .ref u1, .ref v1, .ref w1, .int 0, .int 1, .int 0, .int (-1), .int (-1), .int 0])), (u1, .inl (ca 0, 64, .inl (fun _ => 0))), (v1, .inl (ca 0, 64, .inl (fun _ => 0))), (w1, .inl (ca 0, 64, .inl (fun _ => 0))), (q2, .inl (ca 2, 17, .inr (.inr (.inr (.inr (fun _ => none))))))] := hD
  have hP := hP.sub (ws' := [(h0, .inr (0, [.ref q1, .ref q2, .int 0])), (q1, .inl (ca 1, 2, .inr (.inr (.inr (.inr (fun i => some (ad (3 + i)))))))), (q2, .inl (ca 2, 17, .inr (.inr (.inr (.inr (fun _ => none)))))), (n0, .inr (1, [.int 0, .ref u0, .ref v0, .ref w0, .int 0, .int 1, .int 0, .int (-1), .int (-1), .int 0])), (n1, .inr (1, [.int 0, .ref u1, .ref v1, .ref w1, .int 0, .int 1, .int 0, .int (-1), .int (-1), .int 0])), (u0, .inl (ca 0, 64, .inl (fun _ => 0))), (v0, .inl (ca 0, 64, .inl (fun _ => 0))), (w0, .inl (ca 0, 64, .inl (fun _ => 0))), (u1, .inl (ca 0, 64, .inl (fun _ => 0))), (v1, .inl (ca 0, 64, .inl (fun _ => 0))), (w1, .inl (ca 0, 64, .inl (fun _ => 0)))]) [0, 1, 10, 2, 6, 3, 4, 5, 7, 8, 9] rfl
  have hD := hD.sub (ws' := [(h0, .inr (0, [.ref q1, .ref q2, .int 0])), (q1, .inl (ca 1, 2, .inr (.inr (.inr (.inr (fun i => some (ad (3 + i)))))))), (q2, .inl (ca 2, 17, .inr (.inr (.inr (.inr (fun _ => none)))))), (n0, .inr (1, [.int 0, .ref u0, .ref v0, .ref w0, .int 0, .int 1, .int 0, .int (-1), .int (-1), .int 0])), (n1, .inr (1, [.int 0, .ref u1, .ref v1, .ref w1, .int 0, .int 1, .int 0, .int (-1), .int (-1), .int 0])), (u0, .inl (ca 0, 64, .inl (fun _ => 0))), (v0, .inl (ca 0, 64, .inl (fun _ => 0))), (w0, .inl (ca 0, 64, .inl (fun _ => 0))), (u1, .inl (ca 0, 64, .inl (fun _ => 0))), (v1, .inl (ca 0, 64, .inl (fun _ => 0))), (w1, .inl (ca 0, 64, .inl (fun _ => 0)))]) [0, 1, 10, 2, 6, 3, 4, 5, 7, 8, 9] (by decide) rfl
  have ew : [(h0, .inr (0, [.ref q1, .ref q2, .int 0])), (q1, .inl (ca 1, 2, .inr (.inr (.inr (.inr (fun i => some (ad (3 + i)))))))), (q2, .inl (ca 2, 17, .inr (.inr (.inr (.inr (fun _ => none)))))), (n0, .inr (1, [.int 0, .ref u0, .ref v0, .ref w0, .int 0, .int 1, .int 0, .int (-1), .int (-1), .int 0])), (n1, .inr (1, [.int 0, .ref u1, .ref v1, .ref w1, .int 0, .int 1, .int 0, .int (-1), .int (-1), .int 0])), (u0, .inl (ca 0, 64, .inl (fun _ => 0))), (v0, .inl (ca 0, 64, .inl (fun _ => 0))), (w0, .inl (ca 0, 64, .inl (fun _ => 0))), (u1, .inl (ca 0, 64, .inl (fun _ => 0))), (v1, .inl (ca 0, 64, .inl (fun _ => 0))), (w1, .inl (ca 0, 64, .inl (fun _ => 0)))] = X11 ca ad 0 (fun _ => 0) ++ pl 0 (fun _ => 0) := by
    rw [← a0, ← a1, ← a2, ← a3, ← a4, ← a5, ← a6, ← a7, ← a8, ← a9, ← a10]
    rfl
  rw [ew] at hP hD
  refine lv_iconst (v := 0) hx hb d_T_init_41 (by decide) ?_
  refine lv_istore_n (lv' := [(1, .int 0), (0, .ref h0)]) hx hb d_T_init_42 rfl hl (by decide) rfl (fun ls hl => ?_)
  rw [← a0] at hl
  have X : Cx p m c b_T_init 2 s _ R_T D (tysT ca) := ⟨⟨hx, hb, hml, hown, hts⟩, hK, hK0.2⟩
  refine c_T_init_43 (ad := ad) X hN hA ?_ 18 0 (by decide) (by decide) (fun _ => 0) H locs ls hP hD hS hl
  clear ew hP hD hS hl
  intro μ H locs ls hP hD hS hl
  obtain ⟨ae, hae⟩ : ∃ ae : Nat → Nat, ae = fun j => if j < 11 then ad j else μ (j - 11) := ⟨_, rfl⟩
  have hlo : ∀ j, j < 11 → ae j = ad j := fun j hj => by rw [hae]; exact if_pos hj
  have hμ : μ = fun j => ae (11 + j) := by
    funext j
    rw [hae]
    show μ j = if 11 + j < 11 then ad (11 + j) else μ (11 + j - 11)
    rw [if_neg (by omega), Nat.add_sub_cancel_left]
  have eX : X11 ca ad 17 μ = (X11 ca ae 17 μ).set 1 (ad 1, .inl (ca 1, 2, .inr (.inr (.inr (.inr fun i => some (ad (3 + i))))))) := by
    unfold X11 nodeF
    rw [hlo 0 (by decide), hlo 1 (by decide), hlo 2 (by decide), hlo 3 (by decide), hlo 4 (by decide), hlo 5 (by decide), hlo 6 (by decide), hlo 7 (by decide), hlo 8 (by decide), hlo 9 (by decide), hlo 10 (by decide)]
    rfl
  have hP := hP.chg (p := 1) (a := ad 1) (n := 2) (cA := ca 1) (f := fun i => some (ad (3 + i))) (g := fun i => some (ae (3 + i))) rfl (fun j hj => by rw [hlo (3 + j) (by omega)])
  have hD := hD.set (p := 1) (a := ad 1) (e0 := .inl (ca 1, 2, .inr (.inr (.inr (.inr fun i => some (ad (3 + i))))))) (e := .inl (ca 1, 2, .inr (.inr (.inr (.inr fun i => some (ae (3 + i))))))) rfl
  have eY : (X11 ca ad 17 μ ++ pl 17 μ).set 1 (ad 1, .inl (ca 1, 2, .inr (.inr (.inr (.inr fun i => some (ae (3 + i))))))) = X11 ca ae 17 (fun j => ae (11 + j)) ++ pl 17 (fun j => ae (11 + j)) := by
    rw [eX, ← hμ, ← hlo 1 (by decide)]
    rfl
  rw [eY] at hP hD
  have hP := hP.chg (p := 2) (a := ae 2) (n := 17) (cA := ca 2) (f := lnk 17 (fun j => ae (11 + j))) (g := fun i => some (ae (11 + lk σZ i))) rfl (fun j hj => by unfold lnk; rw [if_pos hj]; rfl)
  have hD := hD.set (p := 2) (a := ae 2) (e0 := .inl (ca 2, 17, .inr (.inr (.inr (.inr (lnk 17 (fun j => ae (11 + j)))))))) (e := .inl (ca 2, 17, .inr (.inr (.inr (.inr fun i => some (ae (11 + lk σZ i))))))) rfl
  rw [X11_w] at hP hD
  have I : In D A s.heap (wT ca ae σZ) H locs := ⟨hP, hD, hS⟩
  rw [← hlo 0 (by decide)] at hl
  refine lv_aload_n hx hb d_T_init_71 rfl (lv_at hl 0 rfl) ?_
  refine tGetNodes X I d_T_init_72 ?_
  refine lv_iconst (v := 0) hx hb d_T_init_75 (by decide) ?_
  refine tNode X I (vi (by decide)) d_T_init_76 ?_
  refine lv_iconst (v := 2) hx hb d_T_init_77 (by decide) ?_
  refine tPutN 0 X I rfl (by decide) rfl rfl d_T_init_78 (fun H locs I => ?_)
  refine lv_aload_n hx hb d_T_init_81 rfl (lv_at hl 0 rfl) ?_
  refine tGetNodes X I d_T_init_82 ?_
  refine lv_iconst (v := 0) hx hb d_T_init_85 (by decide) ?_
  refine tNode X I (vi (by decide)) d_T_init_86 ?_
  refine lv_iconst (v := 1) hx hb d_T_init_87 (by decide) ?_
  refine tPutN 6 X I rfl (by decide) rfl rfl d_T_init_88 (fun H locs I => ?_)
  exact W.vret hx hb hr (fun t ht hW => ⟨⟨ae, rfl, (hlo 0 (by decide)).trans a0, by rw [ht]; exact I.1, I.2.1⟩, I.2.2.F ht⟩) I.2.2.2.2 d_T_init_91
end
section
/-! ===== the plain law: the relation between the two states ===== -/
theorem nf_sn {σ : St} {n k : Nat} {v : Int32} : nf (sn σ n k v) = up2 (nf σ) n k v := rfl
theorem nf_sa {σ : St} {n k : Nat} {v : Int32} : nf (sa σ n k v) = nf σ := rfl
theorem nf_sm {σ : St} {n k : Nat} {v : Int32} : nf (sm σ n k v) = nf σ := rfl
theorem nf_sz {σ : St} {v : Int32} : nf (sz σ v) = nf σ := rfl
theorem ar_sn {σ : St} {n k : Nat} {v : Int32} : ar (sn σ n k v) = ar σ := rfl
theorem ar_sa {σ : St} {n k : Nat} {v : Int32} : ar (sa σ n k v) = up2 (ar σ) n k v := rfl
theorem ar_sm {σ : St} {n k : Nat} {v : Int32} : ar (sm σ n k v) = ar σ := rfl
theorem ar_sz {σ : St} {v : Int32} : ar (sz σ v) = ar σ := rfl
theorem mg_sm {σ : St} {n k : Nat} {v : Int32} : mg (sm σ n k v) = up2 (mg σ) n k v := rfl
theorem mg_sz {σ : St} {v : Int32} : mg (sz σ v) = mg σ := rfl
theorem lk_sm {σ : St} {n k : Nat} {v : Int32} : lk (sm σ n k v) = lk σ := rfl
theorem lk_sz {σ : St} {v : Int32} : lk (sz σ v) = lk σ := rfl
theorem zs_sm {σ : St} {n k : Nat} {v : Int32} : zs (sm σ n k v) = zs σ := rfl
theorem zs_sz {σ : St} {v : Int32} : zs (sz σ v) = v := rfl
theorem am_da {τ : Mt} {n k : Nat} {v : Int32} : am (da τ n k v) = up2 (am τ) n k v := rfl
theorem am_dz {τ : Mt} {v : Int32} : am (dz τ v) = am τ := rfl
theorem mz_da {τ : Mt} {n k : Nat} {v : Int32} : mz (da τ n k v) = mz τ := rfl
theorem mz_dz {τ : Mt} {v : Int32} : mz (dz τ v) = v := rfl
/-- a node's numbers: f by the fields of Node, g by the arrays of the model -/
def NV (K : Nat) (f g : Nat → Int32) : Prop :=
  f 0 = g 1 ∧ f 4 = g 2 ∧ (g 3 = 0 ∨ g 3 = 1) ∧ f 5 = 1 - g 3 ∧ f 6 = g 4 ∧ (g 4 = 0 ∨ g 4 = 1) ∧ (g 3 = 1 → g 4 = 0) ∧ (g 4 = 1 → f 7 = g 5) ∧ f 8 = g 6 ∧ f 9 = g 7 ∧ (0 ≤ (g 1).toInt ∧ (g 1).toInt ≤ K) ∧ (0 ≤ (g 2).toInt ∧ (g 2).toInt ≤ 64)
/-- a node's entries -/
def EA (σ : St) (τ : Mt) (n : Nat) : Prop := ∀ i, i < 64 → ar σ (3 * n + 0) i = am τ 8 (64 * n + i) ∧ ar σ (3 * n + 1) i = am τ 9 (64 * n + i) ∧ ar σ (3 * n + 2) i = am τ 10 (64 * n + i)
def NR (K : Nat) (σ : St) (τ : Mt) (n : Nat) : Prop := NV K (nf σ n) (fun j => am τ j n) ∧ EA σ τ n
def NS (K : Nat) (σ : St) (τ : Mt) : Prop := ∀ n, n < 2 → NR K σ τ n
theorem NV.le {K K' : Nat} {f g : Nat → Int32} (hK : K ≤ K') (h : NV K f g) : NV K' f g := by
  obtain ⟨v0, v4, v3, v5, v6, v66, v36, v7, v8, v9, vt, vl⟩ := h
  exact ⟨v0, v4, v3, v5, v6, v66, v36, v7, v8, v9, ⟨vt.1, by omega⟩, vl⟩
theorem NS.le {K K' : Nat} {σ : St} {τ : Mt} (hK : K ≤ K') (h : NS K σ τ) : NS K' σ τ := fun n hn => ⟨(h n hn).1.le hK, (h n hn).2⟩
/-- one node's numbers change, no entry does -/
theorem NS.one {K : Nat} {σ σ' : St} {τ τ' : Mt} {n : Nat} (h : NS K σ τ) (ho : ∀ q, q < 2 → q ≠ n → nf σ' q = nf σ q ∧ (fun j => am τ' j q) = (fun j => am τ j q)) (ha : ar σ' = ar σ) (h8 : am τ' 8 = am τ 8 ∧ am τ' 9 = am τ 9 ∧ am τ' 10 = am τ 10) (hv : NV K (nf σ' n) (fun j => am τ' j n)) : NS K σ' τ' := by
  intro q hq
  have he : EA σ' τ' q := by
    unfold EA
    rw [ha, h8.1, h8.2.1, h8.2.2]
    exact (h q hq).2
  refine ⟨?_, he⟩
  by_cases hqn : q = n
  · rw [hqn]; exact hv
  · rw [(ho q hq hqn).1, (ho q hq hqn).2]
    exact (h q hq).1
theorem wr_rel {K : Nat} {σ : St} {τ : Mt} {a : Int32} (ha : vp_in a 2) (h : NS K σ τ) : (f_N_writes σ a.toNatClampNeg).1 = (f_D_writes τ a).1 ∧ NS K (f_N_writes σ a.toNatClampNeg).2 (f_D_writes τ a).2 := by
  have hn := vlt ha
  unfold f_N_writes f_D_writes f_N_goDown
  generalize a.toNatClampNeg = n at hn ⊢
  obtain ⟨v0, v4, v3, v5, v6, v66, v36, v7, v8, v9, vt, vl⟩ := (h n hn).1
  simp only at v0 v4 v3 v5 v6 v66 v36 v7 v8 v9 vt vl
  rw [v8]
  split
  · refine ⟨rfl, h.one (n := n) (fun q hq hqn => ⟨?_, ?_⟩) rfl ⟨?_, ?_, ?_⟩ ?_⟩
    · funext k; simp [nf_sn, up2, hqn]
    · funext j; simp [am_da, up2, hqn]
    · funext j; simp [am_da, up2]
    · funext j; simp [am_da, up2]
    · funext j; simp [am_da, up2]
    · simp [NV, nf_sn, am_da, up2, v0, v4, v9, vt, vl]
  · split
    · refine ⟨rfl, h.one (n := n) (fun q hq hqn => ⟨?_, ?_⟩) rfl ⟨?_, ?_, ?_⟩ ?_⟩
      · funext k; simp [nf_sn, up2, hqn]
      · funext j; simp [am_da, up2, hqn]
      · funext j; simp [am_da, up2]
      · funext j; simp [am_da, up2]
      · funext j; simp [am_da, up2]
      · simp [NV, nf_sn, am_da, up2, v0, v4, v3, v5, v6, v66, v8, v9, vt, vl]
        exact ⟨v36, v7⟩
    · refine ⟨rfl, h.one (n := n) (fun q hq hqn => ⟨?_, ?_⟩) rfl ⟨?_, ?_, ?_⟩ ?_⟩
      · funext k; simp [nf_sn, up2, hqn]
      · funext j; simp [am_da, up2, hqn]
      · funext j; simp [am_da, up2]
      · funext j; simp [am_da, up2]
      · funext j; simp [am_da, up2]
      · simp [NV, nf_sn, am_da, up2, v0, v4, v3, v5, v6, v66, v8, v9, vt, vl]
        exact ⟨v36, v7⟩
end
section
theorem NV.cg {K : Nat} {f g g' : Nat → Int32} (hg : ∀ j, j < 8 → g' j = g j) (h : NV K f g) : NV K f g' := by
  unfold NV at h ⊢
  rw [hg 1 (by decide), hg 2 (by decide), hg 3 (by decide), hg 4 (by decide), hg 5 (by decide), hg 6 (by decide), hg 7 (by decide)]
  exact h
theorem ns_down {K : Nat} {σ : St} {τ : Mt} {n : Nat} (hn : n < 2) (h : NS K σ τ) : NS K (f_N_goDown σ n) (da (da (da τ 3 n 1) 4 n 0) 6 n (-1)) := by
  obtain ⟨v0, v4, v3, v5, v6, v66, v36, v7, v8, v9, vt, vl⟩ := (h n hn).1
  simp only at v0 v4 v3 v5 v6 v66 v36 v7 v8 v9 vt vl
  refine h.one (n := n) (fun q hq hqn => ⟨?_, ?_⟩) rfl ⟨?_, ?_, ?_⟩ ?_
  · funext k; simp [f_N_goDown, nf_sn, up2, hqn]
  · funext j; simp [am_da, up2, hqn]
  · funext j; simp [am_da, up2]
  · funext j; simp [am_da, up2]
  · funext j; simp [am_da, up2]
  · simp [NV, nf_sn, am_da, up2, f_N_goDown, v0, v4, v3, v5, v6, v66, v8, v9, vt, vl]
theorem ns_len {K : Nat} {σ : St} {τ : Mt} {n : Nat} (hn : n < 2) (h : NS K σ τ) {t : Int32} (ht : 0 ≤ t.toInt ∧ t.toInt ≤ 64) : NS K (sn σ n 4 t) (da τ 2 n t) := by
  obtain ⟨v0, v4, v3, v5, v6, v66, v36, v7, v8, v9, vt, vl⟩ := (h n hn).1
  simp only at v0 v4 v3 v5 v6 v66 v36 v7 v8 v9 vt vl
  refine h.one (n := n) (fun q hq hqn => ⟨?_, ?_⟩) rfl ⟨?_, ?_, ?_⟩ ?_
  · funext k; simp [nf_sn, up2, hqn]
  · funext j; simp [am_da, up2, hqn]
  · funext j; simp [am_da, up2]
  · funext j; simp [am_da, up2]
  · funext j; simp [am_da, up2]
  · simp [NV, nf_sn, am_da, up2, v0, v4, v3, v5, v6, v66, v8, v9, vt, vl, ht]
    exact ⟨v36, v7⟩
theorem ns_fuse {K : Nat} {σ : St} {τ : Mt} {n : Nat} (hn : n < 2) (h : NS K σ τ) {t : Int32} : NS K (sn σ n 8 t) (da τ 6 n t) := by
  obtain ⟨v0, v4, v3, v5, v6, v66, v36, v7, v8, v9, vt, vl⟩ := (h n hn).1
  simp only at v0 v4 v3 v5 v6 v66 v36 v7 v8 v9 vt vl
  refine h.one (n := n) (fun q hq hqn => ⟨?_, ?_⟩) rfl ⟨?_, ?_, ?_⟩ ?_
  · funext k; simp [nf_sn, up2, hqn]
  · funext j; simp [am_da, up2, hqn]
  · funext j; simp [am_da, up2]
  · funext j; simp [am_da, up2]
  · funext j; simp [am_da, up2]
  · simp [NV, nf_sn, am_da, up2, v0, v4, v3, v5, v6, v66, v8, v9, vt, vl]
    exact ⟨v36, v7⟩
theorem ns_agr {K : Nat} {σ : St} {τ : Mt} {n : Nat} (hn : n < 2) (h : NS K σ τ) {t : Int32} : NS K (sn σ n 7 t) (da τ 5 n t) := by
  obtain ⟨v0, v4, v3, v5, v6, v66, v36, v7, v8, v9, vt, vl⟩ := (h n hn).1
  simp only at v0 v4 v3 v5 v6 v66 v36 v7 v8 v9 vt vl
  refine h.one (n := n) (fun q hq hqn => ⟨?_, ?_⟩) rfl ⟨?_, ?_, ?_⟩ ?_
  · funext k; simp [nf_sn, up2, hqn]
  · funext j; simp [am_da, up2, hqn]
  · funext j; simp [am_da, up2]
  · funext j; simp [am_da, up2]
  · funext j; simp [am_da, up2]
  · simp [NV, nf_sn, am_da, up2, v0, v4, v3, v5, v6, v66, v8, v9, vt, vl]
    exact v36
theorem ns_bec {K : Nat} {σ : St} {τ : Mt} {n : Nat} (hn : n < 2) (h : NS K σ τ) {t : Int32} (ht : 0 ≤ t.toInt ∧ t.toInt ≤ K) : NS K (sn (sn σ n 0 t) n 6 0) (da (da τ 1 n t) 4 n 0) := by
  obtain ⟨v0, v4, v3, v5, v6, v66, v36, v7, v8, v9, vt, vl⟩ := (h n hn).1
  simp only at v0 v4 v3 v5 v6 v66 v36 v7 v8 v9 vt vl
  refine h.one (n := n) (fun q hq hqn => ⟨?_, ?_⟩) rfl ⟨?_, ?_, ?_⟩ ?_
  · funext k; simp [nf_sn, up2, hqn]
  · funext j; simp [am_da, up2, hqn]
  · funext j; simp [am_da, up2]
  · funext j; simp [am_da, up2]
  · funext j; simp [am_da, up2]
  · simp [NV, nf_sn, am_da, up2, v0, v4, v3, v5, v6, v66, v8, v9, vt, vl, ht]
theorem ns_prom {K : Nat} {σ : St} {τ : Mt} {n : Nat} (hn : n < 2) (h : NS K σ τ) {t : Int32} (ht : 0 ≤ t.toInt ∧ t.toInt ≤ K) (hd : am τ 3 n = 0) : NS K (sn (sn (sn (sn σ n 0 t) n 6 0) n 6 1) n 7 (-1)) (da (da (da τ 1 n t) 4 n 1) 5 n (-1)) := by
  obtain ⟨v0, v4, v3, v5, v6, v66, v36, v7, v8, v9, vt, vl⟩ := (h n hn).1
  simp only at v0 v4 v3 v5 v6 v66 v36 v7 v8 v9 vt vl
  refine h.one (n := n) (fun q hq hqn => ⟨?_, ?_⟩) rfl ⟨?_, ?_, ?_⟩ ?_
  · funext k; simp [nf_sn, up2, hqn]
  · funext j; simp [am_da, up2, hqn]
  · funext j; simp [am_da, up2]
  · funext j; simp [am_da, up2]
  · funext j; simp [am_da, up2]
  · simp [NV, nf_sn, am_da, up2, v0, v4, v3, v5, v6, v66, v8, v9, vt, vl, ht, hd]
theorem ns_rec {K : Nat} {σ : St} {τ : Mt} {n : Nat} (hn : n < 2) (h : NS K σ τ) (hd : am τ 3 n = 1) : NS K (sn (sn (sn σ n 5 1) n 8 (-1)) n 7 (-1)) (da (da (da τ 3 n 0) 4 n 0) 6 n (-1)) := by
  obtain ⟨v0, v4, v3, v5, v6, v66, v36, v7, v8, v9, vt, vl⟩ := (h n hn).1
  simp only at v0 v4 v3 v5 v6 v66 v36 v7 v8 v9 vt vl
  refine h.one (n := n) (fun q hq hqn => ⟨?_, ?_⟩) rfl ⟨?_, ?_, ?_⟩ ?_
  · funext k; simp [nf_sn, up2, hqn]
  · funext j; simp [am_da, up2, hqn]
  · funext j; simp [am_da, up2]
  · funext j; simp [am_da, up2]
  · funext j; simp [am_da, up2]
  · simp [NV, nf_sn, am_da, up2, v0, v4, v3, v5, v6, v66, v8, v9, vt, vl, v36 hd]
theorem dwr_34 {τ : Mt} {a : Int32} (h : ¬ (f_D_writes τ a).1 = 0) : am (f_D_writes τ a).2 3 = am τ 3 := by
  unfold f_D_writes at h ⊢
  split
  · rename_i c
    rw [if_pos c] at h
    exact absurd rfl h
  · split
    · rw [am_o (by decide), am_o (by decide)]
    · rw [am_o (by decide), am_o (by decide)]
theorem cut_rel {K : Nat} {σ : St} {τ : Mt} {a t : Int32} (ha : vp_in a 2) (h : NS K σ τ) (ht : 0 ≤ t.toInt ∧ t.toInt ≤ 64) : (f_N_cut σ a.toNatClampNeg t).1 = (f_D_cutTo τ a t).1 ∧ NS K (f_N_cut σ a.toNatClampNeg t).2 (f_D_cutTo τ a t).2 := by
  obtain ⟨e, hN⟩ := wr_rel ha h
  unfold f_N_cut f_D_cutTo
  rw [e]
  split
  · exact ⟨rfl, hN⟩
  · exact ⟨rfl, ns_len (vlt ha) hN ht⟩
/-- pump: becomes, and the model's primary[n] = false behind it -/
theorem bec_rel {K : Nat} {σ : St} {τ : Mt} {a t : Int32} (ha : vp_in a 2) (h : NS K σ τ) (ht : 0 ≤ t.toInt ∧ t.toInt ≤ K) : (f_N_becomes σ a.toNatClampNeg t).1 = (f_D_becomeTerm τ a t).1 ∧ ((f_D_becomeTerm τ a t).1 = 0 → NS K (f_N_becomes σ a.toNatClampNeg t).2 (f_D_becomeTerm τ a t).2) ∧ (¬ (f_D_becomeTerm τ a t).1 = 0 → NS K (f_N_becomes σ a.toNatClampNeg t).2 (da (f_D_becomeTerm τ a t).2 4 a.toNatClampNeg 0)) := by
  obtain ⟨e, hN⟩ := wr_rel ha h
  unfold f_N_becomes f_D_becomeTerm
  rw [e]
  split
  · exact ⟨rfl, fun _ => hN, fun c => absurd rfl c⟩
  · exact ⟨rfl, fun c => absurd (show (1 : Int32) = 0 from c) (by decide), fun _ => ns_bec (vlt ha) hN ht⟩
theorem prom_rel {K : Nat} {σ : St} {τ : Mt} {a t : Int32} (ha : vp_in a 2) (h : NS K σ τ) (ht : 0 ≤ t.toInt ∧ t.toInt ≤ K) (hd : am τ 3 a.toNatClampNeg = 0) : (f_T_promote_43 σ t a.toNatClampNeg).1 = (f_D_promote_52 τ a t).1 ∧ NS K (f_T_promote_43 σ t a.toNatClampNeg).2 (f_D_promote_52 τ a t).2 := by
  obtain ⟨e, hN⟩ := wr_rel ha h
  unfold f_T_promote_43 f_D_promote_52 f_N_becomes f_D_becomeTerm
  rw [e]
  by_cases c : (f_D_writes τ a).1 = 0
  · rw [if_pos c, if_pos c]
    exact ⟨rfl, hN⟩
  · rw [if_neg c, if_neg c]
    exact ⟨rfl, ns_prom (vlt ha) hN ht (by rw [dwr_34 c]; exact hd)⟩
theorem ix64 {a v : Int32} (ha : vp_in a 2) (hv : 0 ≤ v.toInt ∧ v.toInt ≤ 64) : (64 * a + v).toNatClampNeg = 64 * a.toNatClampNeg + v.toNatClampNeg := by
  have h1 := iv ha
  rw [n_cl, i64 ha hv, n_cl, n_cl]
  omega
theorem add_rel {K : Nat} {σ : St} {τ : Mt} {a t k v : Int32} (ha : vp_in a 2) (h : NS K σ τ) (hl : vp_in (am τ 2 a.toNatClampNeg) 64) : (f_N_add σ a.toNatClampNeg t k v).1 = (f_D_putBehind τ a t k v).1 ∧ NS K (f_N_add σ a.toNatClampNeg t k v).2 (f_D_putBehind τ a t k v).2 := by
  obtain ⟨e, hN⟩ := wr_rel ha h
  have hw := (@dwr_k τ a).2 2 (by decide) (by decide) (by decide) (by decide)
  unfold f_N_add f_D_putBehind
  rw [e]
  split
  · exact ⟨rfl, hN⟩
  · refine ⟨rfl, ?_⟩
    have hn := vlt ha
    have hl2 : vp_in (am (f_D_writes τ a).2 2 a.toNatClampNeg) 64 := by rw [hw]; exact hl
    have hi := iv hl2
    rw [ix64 ha ⟨hi.1, by omega⟩]
    have hLt := vlt hl2
    generalize (f_N_writes σ a.toNatClampNeg).2 = σ1 at hN ⊢
    generalize (f_D_writes τ a).2 = τ1 at hN hi hLt ⊢
    generalize a.toNatClampNeg = n at hn hN hi hLt ⊢
    obtain ⟨v0, v4, v3, v5, v6, v66, v36, v7, v8, v9, vt, vl⟩ := (hN n hn).1
    simp only at v0 v4 v3 v5 v6 v66 v36 v7 v8 v9 vt vl
    simp only [nf_sa]
    rw [v4]
    generalize hL : (am τ1 2 n).toNatClampNeg = L at hLt ⊢
    have eL : am (da (da (da τ1 8 (64 * n + L) t) 9 (64 * n + L) k) 10 (64 * n + L) v) 2 n = am τ1 2 n := by simp [am_da, up2]
    rw [eL]
    have e1 : (am τ1 2 n + 1).toInt = (am τ1 2 n).toInt + 1 := by rw [n_add (by rw [n_1]; omega) (by rw [n_1]; omega), n_1]
    have ew : 0 ≤ (am τ1 2 n + 1).toInt ∧ (am τ1 2 n + 1).toInt ≤ 64 := by rw [e1]; omega
    generalize am τ1 2 n + 1 = w at ew ⊢
    intro q hq
    refine ⟨?_, ?_⟩
    · by_cases hqn : q = n
      · subst hqn
        simp [NV, nf_sn, nf_sa, am_da, up2, v0, v3, v5, v6, v66, v8, v9, vt, ew]
        exact ⟨v36, v7⟩
      · have q1 : nf (sn (sa (sa (sa σ1 (3 * n + 0) L t) (3 * n + 1) L k) (3 * n + 2) L v) n 4 w) q = nf σ1 q := by
          funext j; simp [nf_sn, nf_sa, up2, hqn]
        rw [q1]
        refine NV.cg (fun j hj => ?_) (hN q hq).1
        simp only [am_da, up2]
        rw [if_neg (by omega), if_neg (by omega), if_neg (by omega), if_neg (by omega)]
    · intro i hi64
      obtain ⟨x1, x2, x3⟩ := (hN q hq).2 i hi64
      by_cases hc : q = n ∧ i = L
      · obtain ⟨rfl, rfl⟩ := hc
        refine ⟨?_, ?_, ?_⟩ <;> simp [ar_sn, ar_sa, am_da, up2]
      · have y1 : ¬ 64 * q + i = 64 * n + L := by omega
        have y0 : ¬ (3 * q + 0 = 3 * n + 0 ∧ i = L) := by omega
        refine ⟨?_, ?_, ?_⟩
        · simp only [ar_sn, ar_sa, am_da, up2]
          rw [if_neg (by omega), if_neg (by omega), if_neg (by omega), if_neg (by omega), if_neg (by omega), if_neg (by omega), if_neg (by omega)]
          exact x1
        · simp only [ar_sn, ar_sa, am_da, up2]
          rw [if_neg (by omega), if_neg (by omega), if_neg (by omega), if_neg (by omega), if_neg (by omega), if_neg (by omega), if_neg (by omega)]
          exact x2
        · simp only [ar_sn, ar_sa, am_da, up2]
          rw [if_neg (by omega), if_neg (by omega), if_neg (by omega), if_neg (by omega), if_neg (by omega), if_neg (by omega), if_neg (by omega)]
          exact x3
end
section
/-! ===== the messages ===== -/
/-- a message: f by the fields of Message, g by the nine numbers of the model -/
def MR (K : Nat) (f g : Nat → Int32) : Prop :=
  f 0 = g 0 ∧ f 1 = g 1 ∧ f 2 = g 2 ∧ f 3 = g 3 ∧ (g 0 = 1 ∨ g 0 = 2 ∨ g 0 = 3) ∧ vp_in (g 1) 2 ∧ (0 ≤ (g 2).toInt ∧ (g 2).toInt ≤ K) ∧ (g 0 = 1 → f 6 = g 4 ∧ f 7 = g 5 ∧ f 8 = g 6 ∧ f 4 = g 7 ∧ f 5 = g 8 ∧ vp_in (g 3) 64 ∧ (0 ≤ (g 8).toInt ∧ (g 8).toInt ≤ 64)) ∧ (g 0 = 2 → vp_in (g 3) 64)
theorem MR.le {K K' : Nat} {f g : Nat → Int32} (hK : K ≤ K') (h : MR K f g) : MR K' f g := by
  obtain ⟨h0, h1, h2, h3, hk, hn, ht, hs, ha⟩ := h
  exact ⟨h0, h1, h2, h3, hk, hn, ⟨ht.1, by omega⟩, hs, ha⟩
theorem MR.cg {K : Nat} {f g g' : Nat → Int32} (hg : ∀ j, j < 9 → g' j = g j) (h : MR K f g) : MR K f g' := by
  unfold MR at h ⊢
  rw [hg 0 (by decide), hg 1 (by decide), hg 2 (by decide), hg 3 (by decide), hg 4 (by decide), hg 5 (by decide), hg 6 (by decide), hg 7 (by decide), hg 8 (by decide)]
  exact h
/-- the link: m messages on both sides -/
def QR (K m : Nat) (σ : St) (τ : Mt) : Prop :=
  m ≤ 16 ∧ zs σ = nI m ∧ mz τ = nI m ∧ (∀ i, i < 17 → lk σ i < 17) ∧ (∀ i j, i < 17 → j < 17 → lk σ i = lk σ j → i = j) ∧ ∀ j, j < m → MR K (mg σ (lk σ j)) (fun k => am τ 11 (9 * j + k))
def Rel (K : Nat) (σ : St) (τ : Mt) : Prop := NS K σ τ ∧ ∃ m, QR K m σ τ
theorem QR.le {K K' m : Nat} {σ : St} {τ : Mt} (hK : K ≤ K') (h : QR K m σ τ) : QR K' m σ τ := ⟨h.1, h.2.1, h.2.2.1, h.2.2.2.1, h.2.2.2.2.1, fun j hj => (h.2.2.2.2.2 j hj).le hK⟩
theorem Rel.le {K K' : Nat} {σ : St} {τ : Mt} (hK : K ≤ K') (h : Rel K σ τ) : Rel K' σ τ := ⟨h.1.le hK, h.2.choose, h.2.choose_spec.le hK⟩
theorem QR.of {K m : Nat} {σ σ' : St} {τ τ' : Mt} (h : QR K m σ τ) (k : zs σ' = zs σ ∧ lk σ' = lk σ ∧ mg σ' = mg σ) (k2 : mz τ' = mz τ ∧ am τ' 11 = am τ 11) : QR K m σ' τ' := by
  unfold QR
  rw [k.1, k.2.1, k.2.2, k2.1, k2.2]
  exact h
theorem QR.Bz {K m : Nat} {σ : St} {τ : Mt} (h : QR K m σ τ) : Bz σ := by
  refine ⟨?_, h.2.2.2.1⟩
  have := h.1
  rw [h.2.1, nI_toInt (by omega)]
  omega
theorem QR.Dz {K m : Nat} {σ : St} {τ : Mt} (h : QR K m σ τ) : Dz τ := by
  unfold Jvm.Pilot.CTwinLogLaw_law_r9683_706eba.Dz
  have := h.1
  rw [h.2.2.1, nI_toInt (by omega)]
  omega
theorem Rel.Bs {K : Nat} {σ : St} {τ : Mt} (h : Rel K σ τ) : Bs σ := by
  obtain ⟨hN, m, hQ⟩ := h
  refine ⟨hQ.Bz, fun n hn => ?_⟩
  obtain ⟨v0, v4, v3, v5, v6, v66, v36, v7, v8, v9, vt, vl⟩ := (hN n hn).1
  rw [v4]
  exact vl
theorem Rel.Ds {K : Nat} {σ : St} {τ : Mt} (h : Rel K σ τ) : Ds τ := by
  obtain ⟨hN, m, hQ⟩ := h
  refine ⟨hQ.Dz, fun n hn => ?_⟩
  obtain ⟨v0, v4, v3, v5, v6, v66, v36, v7, v8, v9, vt, vl⟩ := (hN n hn).1
  exact vl
/-- the model's send, closed -/
theorem i9 {m c : Nat} (h : m ≤ 15) (hc : c ≤ 8) : (9 * nI m + nI c).toNatClampNeg = 9 * m + c := by
  have e9 : (9 : Int32) = nI 9 := rfl
  rw [e9, pk_mul, nI_add, nI_clamp (by omega)]
theorem i90 {m : Nat} (h : m ≤ 15) : (9 * nI m).toNatClampNeg = 9 * m := by
  have e9 : (9 : Int32) = nI 9 := rfl
  rw [e9, pk_mul, nI_clamp (by omega)]
/-- what the model's send leaves: the first four numbers, all else as it was -/
def Sd (m : Nat) (a k v : Int32) (τ τ' : Mt) : Prop := mz τ' = mz τ ∧ (∀ j, j ≠ 11 → am τ' j = am τ j) ∧ (∀ x, x < 9 * m → am τ' 11 x = am τ 11 x) ∧ am τ' 11 (9 * m) = k ∧ am τ' 11 (9 * m + 1) = 1 - a ∧ am τ' 11 (9 * m + 2) = am τ 1 a.toNatClampNeg ∧ am τ' 11 (9 * m + 3) = v
theorem Sd.w {m : Nat} {a k v w : Int32} {τ τ' : Mt} (h : Sd m a k v τ τ') (c : Nat) (hc : 4 ≤ c) : Sd m a k v τ (da τ' 11 (9 * m + c) w) := by
  obtain ⟨h1, h2, h3, h4, h5, h6, h7⟩ := h
  refine ⟨h1, fun j hj => by rw [am_o hj]; exact h2 j hj, fun x hx => ?_, ?_, ?_, ?_, ?_⟩
  · rw [am_da, up2, if_neg (by omega)]; exact h3 x hx
  · rw [am_da, up2, if_neg (by omega)]; exact h4
  · rw [am_da, up2, if_neg (by omega)]; exact h5
  · rw [am_da, up2, if_neg (by omega)]; exact h6
  · rw [am_da, up2, if_neg (by omega)]; exact h7
theorem Sd.first {m : Nat} {a k v : Int32} {τ : Mt} : Sd m a k v τ (da (da (da (da τ 11 (9 * m) k) 11 (9 * m + 1) (1 - a)) 11 (9 * m + 2) (am τ 1 a.toNatClampNeg)) 11 (9 * m + 3) v) := by
  refine ⟨rfl, fun j hj => by rw [am_o hj, am_o hj, am_o hj, am_o hj], fun x hx => ?_, ?_, ?_, ?_, ?_⟩
  · simp only [am_da, up2]
    rw [if_neg (by omega), if_neg (by omega), if_neg (by omega), if_neg (by omega)]
  · simp only [am_da, up2]
    rw [if_neg (by omega), if_neg (by omega), if_neg (by omega), if_pos (by simp)]
  · simp only [am_da, up2]
    rw [if_neg (by omega), if_neg (by omega), if_pos (by simp)]
  · simp only [am_da, up2]
    rw [if_neg (by omega), if_pos (by simp)]
  · simp only [am_da, up2]
    rw [if_pos (by simp)]
theorem ds67_1 {fuel : Nat} {τ : Mt} {a k v v4 : Int32} : f_D_send_67 (fuel + 1) τ a k v v4 9 = f_D_send_196 (if k = 1 then da (da (da (da (da τ 11 (v4 + 4).toNatClampNeg (am τ 8 (64 * a + v).toNatClampNeg)) 11 (v4 + 5).toNatClampNeg (am τ 9 (64 * a + v).toNatClampNeg)) 11 (v4 + 6).toNatClampNeg (am τ 10 (64 * a + v).toNatClampNeg)) 11 (v4 + 7).toNatClampNeg (if v = 0 then 0 else am τ 8 (64 * a + v - 1).toNatClampNeg)) 11 (v4 + 8).toNatClampNeg (am τ 2 a.toNatClampNeg) else τ) := by
  rw [f_D_send_67, if_pos (by decide)]
  simp only [am_o (show (8 : Nat) ≠ 11 by decide), am_o (show (9 : Nat) ≠ 11 by decide), am_o (show (10 : Nat) ≠ 11 by decide), am_o (show (2 : Nat) ≠ 11 by decide)]
  by_cases hk : k = 1
  · rw [if_pos hk, if_pos hk]
    by_cases hv : v = 0
    · rw [if_pos hv, if_pos hv]
    · rw [if_neg hv, if_neg hv]
  · rw [if_neg hk, if_neg hk]
theorem ds67_z {fuel c : Nat} {τ : Mt} {a k v v4 : Int32} (hc : c < 9) : f_D_send_67 (fuel + 1) τ a k v v4 (nI c) = f_D_send_67 fuel (da τ 11 (v4 + nI c).toNatClampNeg 0) a k v v4 (nI (c + 1)) := by
  have e9 : (9 : Int32) = nI 9 := rfl
  rw [f_D_send_67, if_neg (by rw [e9, nI_leI (by decide) (by omega)]; omega), nI_1]
theorem dsend_s {τ : Mt} {a k v : Int32} {m : Nat} (hm : mz τ = nI m) (hm15 : m ≤ 15) :
    mz (f_D_send τ a k v) = nI (m + 1) ∧ (∀ j, j ≠ 11 → am (f_D_send τ a k v) j = am τ j) ∧ (∀ x, x < 9 * m → am (f_D_send τ a k v) 11 x = am τ 11 x) ∧ am (f_D_send τ a k v) 11 (9 * m) = k ∧ am (f_D_send τ a k v) 11 (9 * m + 1) = 1 - a ∧ am (f_D_send τ a k v) 11 (9 * m + 2) = am τ 1 a.toNatClampNeg ∧ am (f_D_send τ a k v) 11 (9 * m + 3) = v ∧
    (k = 1 → am (f_D_send τ a k v) 11 (9 * m + 4) = am τ 8 (64 * a + v).toNatClampNeg ∧ am (f_D_send τ a k v) 11 (9 * m + 5) = am τ 9 (64 * a + v).toNatClampNeg ∧ am (f_D_send τ a k v) 11 (9 * m + 6) = am τ 10 (64 * a + v).toNatClampNeg ∧ am (f_D_send τ a k v) 11 (9 * m + 7) = (if v = 0 then 0 else am τ 8 (64 * a + v - 1).toNatClampNeg) ∧ am (f_D_send τ a k v) 11 (9 * m + 8) = am τ 2 a.toNatClampNeg) := by
  have h16 : ¬ mz τ = 16 := by
    rw [hm, n_eq, nI_toInt (by omega), n_16]
    omega
  have e0 : (9 * nI m).toNatClampNeg = 9 * m := i90 hm15
  have e1 : (9 * nI m + 1).toNatClampNeg = 9 * m + 1 := i9 (c := 1) hm15 (by decide)
  have e2 : (9 * nI m + 2).toNatClampNeg = 9 * m + 2 := i9 (c := 2) hm15 (by decide)
  have e3 : (9 * nI m + 3).toNatClampNeg = 9 * m + 3 := i9 (c := 3) hm15 (by decide)
  have e4 : (9 * nI m + 4).toNatClampNeg = 9 * m + 4 := i9 (c := 4) hm15 (by decide)
  have e5 : (9 * nI m + 5).toNatClampNeg = 9 * m + 5 := i9 (c := 5) hm15 (by decide)
  have e6 : (9 * nI m + 6).toNatClampNeg = 9 * m + 6 := i9 (c := 6) hm15 (by decide)
  have e7 : (9 * nI m + 7).toNatClampNeg = 9 * m + 7 := i9 (c := 7) hm15 (by decide)
  have e8 : (9 * nI m + 8).toNatClampNeg = 9 * m + 8 := i9 (c := 8) hm15 (by decide)
  obtain ⟨τ9, hS, hE⟩ : ∃ τ9, Sd m a k v τ τ9 ∧ f_D_send τ a k v = f_D_send_67 1 τ9 a k v (9 * nI m) 9 := by
    have l4 : (4 : Int32) = nI 4 := rfl
    refine ⟨_, ((((Sd.first.w (w := 0) 4 (by decide)).w (w := 0) 5 (by decide)).w (w := 0) 6 (by decide)).w (w := 0) 7 (by decide)).w (w := 0) 8 (by decide), ?_⟩
    unfold f_D_send
    rw [if_neg h16, hm, l4, ds67_z (by decide), ds67_z (by decide), ds67_z (by decide), ds67_z (by decide), ds67_z (by decide)]
    rw [i9 hm15 (by decide), i9 hm15 (by decide), i9 hm15 (by decide), i9 hm15 (by decide), i9 hm15 (by decide), e0, e1, e2, e3]
    rfl
  rw [hE, ds67_1, e4, e5, e6, e7, e8]
  unfold f_D_send_196
  by_cases hk : k = 1
  · rw [if_pos hk]
    have hS2 := ((((hS.w (w := am τ9 8 (64 * a + v).toNatClampNeg) 4 (by decide)).w (w := am τ9 9 (64 * a + v).toNatClampNeg) 5 (by decide)).w (w := am τ9 10 (64 * a + v).toNatClampNeg) 6 (by decide)).w (w := (if v = 0 then 0 else am τ9 8 (64 * a + v - 1).toNatClampNeg)) 7 (by decide)).w (w := am τ9 2 a.toNatClampNeg) 8 (by decide)
    refine ⟨?_, hS2.2.1, hS2.2.2.1, hS2.2.2.2.1, hS2.2.2.2.2.1, hS2.2.2.2.2.2.1, hS2.2.2.2.2.2.2, fun _ => ⟨?_, ?_, ?_, ?_, ?_⟩⟩
    · show mz τ9 + 1 = _
      rw [hS.1, hm, nI_1]
    · simp only [am_dz, am_da, up2]
      rw [if_neg (by omega), if_neg (by omega), if_neg (by omega), if_neg (by omega), if_pos (by simp), hS.2.1 8 (by decide)]
    · simp only [am_dz, am_da, up2]
      rw [if_neg (by omega), if_neg (by omega), if_neg (by omega), if_pos (by simp), hS.2.1 9 (by decide)]
    · simp only [am_dz, am_da, up2]
      rw [if_neg (by omega), if_neg (by omega), if_pos (by simp), hS.2.1 10 (by decide)]
    · simp only [am_dz, am_da, up2]
      rw [if_neg (by omega), if_pos (by simp), hS.2.1 8 (by decide)]
    · simp only [am_dz, am_da, up2]
      rw [if_pos (by simp), hS.2.1 2 (by decide)]
  · rw [if_neg hk]
    refine ⟨?_, hS.2.1, hS.2.2.1, hS.2.2.2.1, hS.2.2.2.2.1, hS.2.2.2.2.2.1, hS.2.2.2.2.2.2, fun c => absurd c hk⟩
    show mz τ9 + 1 = _
    rw [hS.1, hm, nI_1]
end
section
/-! ===== send, ship, take on both sides ===== -/
theorem NS.of {K : Nat} {σ σ' : St} {τ τ' : Mt} (h : NS K σ τ) (h1 : nf σ' = nf σ) (h2 : ar σ' = ar σ) (h3 : ∀ j, j ≠ 11 → j ≠ 12 → am τ' j = am τ j) : NS K σ' τ' := by
  intro n hn
  obtain ⟨hv, he⟩ := h n hn
  refine ⟨?_, ?_⟩
  · rw [h1]
    exact NV.cg (fun j hj => by rw [h3 j (by omega) (by omega)]) hv
  · unfold EA
    rw [h2, h3 8 (by decide) (by decide), h3 9 (by decide) (by decide), h3 10 (by decide) (by decide)]
    exact he
theorem one_sub {a : Int32} (ha : vp_in a 2) : vp_in (1 - a) 2 := by
  have h := iv ha
  exact vi (by rw [n_sub (by rw [n_1]; omega) (by rw [n_1]; omega), n_1]; omega)
theorem z16 {m : Nat} (h : m ≤ 15) {z : Int32} (e : z = nI m) : ¬ z = 16 := by
  rw [e, n_eq, nI_toInt (by omega), n_16]
  omega
theorem tsend_e {σ : St} {a k v : Int32} {m : Nat} (hz : zs σ = nI m) (hm : m ≤ 15) : f_T_send σ a k v = (some (lk σ m), sm (sm (sm (sm (sz σ (nI (m + 1))) (lk σ m) 0 k) (lk σ m) 1 (1 - a)) (lk σ m) 2 (nf σ a.toNatClampNeg 0)) (lk σ m) 3 v) := by
  unfold f_T_send
  rw [if_neg (z16 hm hz), hz, nI_clamp (by omega), nI_1]
  rfl
theorem send_rel {K : Nat} {σ : St} {τ : Mt} {a k v : Int32} (h : Rel K σ τ) (ha : vp_in a 2) (hk : k = 2 ∨ k = 3) (hv : k = 2 → vp_in v 64) : Rel K (f_T_send σ a k v).2 (f_D_send τ a k v) := by
  obtain ⟨hN, m, h1, h2, h3, h4, h5, h6⟩ := h
  by_cases hm : m = 16
  · have z : zs σ = 16 := by rw [h2, hm]; rfl
    have z2 : mz τ = 16 := by rw [h3, hm]; rfl
    unfold f_T_send f_D_send
    rw [if_pos z, if_pos z2]
    exact ⟨hN, m, h1, h2, h3, h4, h5, h6⟩
  · have hm15 : m ≤ 15 := by omega
    obtain ⟨d1, d2, d3, d4, d5, d6, d7, -⟩ := dsend_s (a := a) (k := k) (v := v) h3 hm15
    rw [tsend_e h2 hm15]
    refine ⟨hN.of rfl rfl (fun j hj _ => d2 j hj), m + 1, by omega, rfl, d1, h4, h5, ?_⟩
    intro j hj
    show MR K (mg (sm (sm (sm (sm (sz σ (nI (m + 1))) (lk σ m) 0 k) (lk σ m) 1 (1 - a)) (lk σ m) 2 (nf σ a.toNatClampNeg 0)) (lk σ m) 3 v) (lk σ j)) _
    by_cases hjm : j = m
    · subst hjm
      obtain ⟨v0, v4, v3, v5, v6, v66, v36, v7, v8, v9, vt, vl⟩ := (hN _ (vlt ha)).1
      have g0 : am (f_D_send τ a k v) 11 (9 * j + 0) = k := d4
      refine ⟨?_, ?_, ?_, ?_, ?_, ?_, ?_, ?_, ?_⟩
      · simp [mg_sm, up2, d4]
      · simp [mg_sm, up2, d5]
      · simp [mg_sm, up2, d6, v0]
      · simp [mg_sm, up2, d7]
      · simp only [g0]
        rcases hk with e | e
        · exact Or.inr (Or.inl e)
        · exact Or.inr (Or.inr e)
      · simp only [d5]
        exact one_sub ha
      · simp only [d6]
        exact vt
      · intro e
        simp only [g0] at e
        rcases hk with e2 | e2 <;> rw [e] at e2 <;> exact absurd e2 (by decide)
      · intro e
        simp only [g0] at e
        simp only [d7]
        exact hv e
    · have hne : ¬ lk σ j = lk σ m := fun e => hjm (h5 j m (by omega) (by omega) e)
      have e1 : mg (sm (sm (sm (sm (sz σ (nI (m + 1))) (lk σ m) 0 k) (lk σ m) 1 (1 - a)) (lk σ m) 2 (nf σ a.toNatClampNeg 0)) (lk σ m) 3 v) (lk σ j) = mg σ (lk σ j) := by
        funext x
        simp [mg_sm, mg_sz, up2, hne]
      rw [e1]
      exact MR.cg (fun x hx => d3 _ (by omega)) (h6 j (by omega))
theorem termOf_rel {K : Nat} {σ : St} {τ : Mt} {a i : Int32} (hN : NS K σ τ) (ha : vp_in a 2) (hi : vp_in i 64) : f_N_termOf σ a.toNatClampNeg (i - 1) = (if i = 0 then 0 else am τ 8 (64 * a + i - 1).toNatClampNeg) := by
  have h1 := iv ha
  have h2 := iv hi
  have e1 : (i - 1).toInt = i.toInt - 1 := by rw [n_sub (by rw [n_1]; omega) (by rw [n_1]; omega), n_1]
  have e2 := i64 ha ⟨h2.1, by omega⟩
  have e3 : (64 * a + i - 1).toInt = 64 * a.toInt + i.toInt - 1 := by rw [n_sub (by rw [n_1, e2]; omega) (by rw [n_1, e2]; omega), n_1, e2]
  unfold f_N_termOf
  by_cases c : i = 0
  · rw [if_pos c, if_neg]
    rw [n_le, n_0, e1]
    rw [n_eq, n_0] at c
    omega
  · rw [if_neg c, if_pos]
    · rw [n_eq, n_0] at c
      have hx : (i - 1).toNatClampNeg < 64 := by rw [n_cl, e1]; omega
      rw [((hN _ (vlt ha)).2 _ hx).1]
      congr 1
      rw [n_cl, n_cl, n_cl, e1, e3]
      omega
    · rw [n_eq, n_0] at c
      rw [n_le, n_0, e1]
      omega
theorem ship_rel {K : Nat} {σ : St} {τ : Mt} {a i : Int32} (h : Rel K σ τ) (ha : vp_in a 2) (hi : vp_in i 64) : Rel K (f_T_ship σ a i) (f_D_send τ a 1 i) := by
  obtain ⟨hN, m, h1, h2, h3, h4, h5, h6⟩ := h
  by_cases hm : m = 16
  · have z : zs σ = 16 := by rw [h2, hm]; rfl
    have z2 : mz τ = 16 := by rw [h3, hm]; rfl
    unfold f_T_ship f_T_send f_D_send
    rw [if_pos z2]
    simp only [if_pos z]
    exact ⟨hN, m, h1, h2, h3, h4, h5, h6⟩
  · have hm15 : m ≤ 15 := by omega
    obtain ⟨d1, d2, d3, d4, d5, d6, d7, d8⟩ := dsend_s (a := a) (k := 1) (v := i) h3 hm15
    obtain ⟨s4, s5, s6, s7, s8⟩ := d8 rfl
    have htm := termOf_rel hN ha hi
    have e0 : ∀ σ' : St, ar σ' = ar σ → f_N_termOf σ' a.toNatClampNeg (i - 1) = f_N_termOf σ a.toNatClampNeg (i - 1) := fun σ' e => by unfold f_N_termOf; rw [e]
    unfold f_T_ship
    rw [tsend_e h2 hm15]
    simp only [Option.getD_some, if_neg (show ¬ some (lk σ m) = none by simp)]
    simp only [nf_sm, ar_sm, nf_sz, ar_sz]
    rw [e0, htm]
    rotate_left
    · rfl
    have hi2 := iv hi
    have hxi : i.toNatClampNeg < 64 := vlt hi
    obtain ⟨a1, a2, a3⟩ := (hN _ (vlt ha)).2 _ hxi
    have ei := ix64 ha ⟨hi2.1, by omega⟩
    rw [← ei] at a1 a2 a3
    rw [a1, a2, a3]
    obtain ⟨v0, v4, v3, v5, v6, v66, v36, v7, v8, v9, vt, vl⟩ := (hN _ (vlt ha)).1
    generalize hd : lk σ m = d
    refine ⟨hN.of rfl rfl (fun j hj _ => d2 j hj), m + 1, by omega, rfl, d1, h4, h5, ?_⟩
    intro j hj
    by_cases hjm : j = m
    · subst hjm
      show MR K (mg _ (lk σ j)) _
      rw [hd]
      have g0 : am (f_D_send τ a 1 i) 11 (9 * j + 0) = 1 := d4
      refine ⟨?_, ?_, ?_, ?_, ?_, ?_, ?_, ?_, ?_⟩
      · simp [mg_sm, up2, d4]
      · simp [mg_sm, up2, d5]
      · simp [mg_sm, up2, d6, v0]
      · simp [mg_sm, up2, d7]
      · exact Or.inl g0
      · simp only [d5]
        exact one_sub ha
      · simp only [d6]
        exact vt
      · intro _
        refine ⟨?_, ?_, ?_, ?_, ?_, ?_, ?_⟩
        · simp [mg_sm, up2, s4]
        · simp [mg_sm, up2, s5]
        · simp [mg_sm, up2, s6]
        · simp [mg_sm, up2, s7]
        · simp [mg_sm, up2, s8, v4]
        · simp only [d7]
          exact hi
        · simp only [s8]
          exact vl
      · intro e
        simp only [g0] at e
        exact absurd e (by decide)
    · have hne : ¬ lk σ j = d := fun e => hjm (h5 j m (by omega) (by omega) (e.trans hd.symm))
      refine MR.cg (fun x hx => d3 _ (by omega)) ?_
      show MR K (mg _ (lk σ j)) _
      have e1 := h6 j (by omega)
      unfold MR at e1 ⊢
      simp only [mg_sm, mg_sz, up2, hne, false_and, if_false]
      exact e1
/-! take and remove -/
theorem rem_c (fuel : Nat) : ∀ (τ : Mt) (v m : Nat), mz τ = nI m → m ≤ 15 → v ≤ 144 → 9 * m < fuel + v → ∀ x, am (f_D_remove_15 fuel τ (nI v)) 11 x = if v ≤ x ∧ x < 9 * m then am τ 11 (x + 9) else am τ 11 x := by
  induction fuel with
  | zero =>
    intro τ v m h1 h2 h3 h4 x
    rw [if_neg (by omega)]
    rfl
  | succ fuel ih =>
    intro τ v m h1 h2 h3 h4 x
    have e9 : (9 : Int32) = nI 9 := rfl
    rw [f_D_remove_15, h1, e9, pk_mul]
    by_cases c : 9 * m ≤ v
    · rw [if_pos (by rw [nI_leI (by omega) (by omega)]; exact c), if_neg (by omega)]
    · rw [if_neg (by rw [nI_leI (by omega) (by omega)]; exact c), nI_1, nI_add, nI_clamp (by omega), nI_clamp (by omega), ih (da τ 11 v (am τ 11 (v + 9))) (v + 1) m h1 h2 (by omega) (by omega)]
      simp only [am_da, up2]
      by_cases hx : x = v
      · subst hx
        rw [if_neg (by omega), if_pos (by simp), if_pos (by omega)]
      · by_cases hx2 : v ≤ x ∧ x < 9 * m
        · rw [if_pos (by omega), if_pos hx2, if_neg (by omega)]
        · rw [if_neg (by omega), if_neg hx2, if_neg (by omega)]
theorem remove_c {τ : Mt} {k m : Nat} (h1 : mz τ = nI (m + 1)) (h2 : m ≤ 15) (hk : k ≤ 15) : ∀ x, am (f_D_remove τ (nI k)) 11 x = if 9 * k ≤ x ∧ x < 9 * m then am τ 11 (x + 9) else am τ 11 x := by
  intro x
  have e9 : (9 : Int32) = nI 9 := rfl
  rw [f_D_remove, e9, pk_mul, rem_c 150 _ (9 * k) m (by rw [mz_dz, h1, nI_pred]) h2 (by omega) (by omega)]
  rfl
def rho (k i : Nat) : Nat := if i < k then i else if i < 16 then i + 1 else k
theorem tkL_rho {f : Nat → Nat} {k i : Nat} (hi : i < 17) : tkL f k (f k) i = f (rho k i) := by
  unfold tkL rho
  by_cases h1 : i < k
  · rw [if_pos h1, if_pos h1]
  · rw [if_neg h1, if_neg h1]
    by_cases h2 : i < 16
    · rw [if_pos h2, if_pos h2]
    · rw [if_neg h2, if_neg h2, if_pos (by omega)]
theorem rho_lt {k i : Nat} (hk : k < 17) (hi : i < 17) : rho k i < 17 := by
  unfold rho
  split
  · omega
  · split <;> omega
theorem rho_c {k i : Nat} (hk : k < 16) (hi : i < 17) : (i < k ∧ rho k i = i) ∨ (k ≤ i ∧ i < 16 ∧ rho k i = i + 1) ∨ (i = 16 ∧ rho k i = k) := by
  unfold rho
  by_cases h1 : i < k
  · exact Or.inl ⟨h1, if_pos h1⟩
  · rw [if_neg h1]
    by_cases h2 : i < 16
    · exact Or.inr (Or.inl ⟨by omega, h2, if_pos h2⟩)
    · exact Or.inr (Or.inr ⟨by omega, if_neg h2⟩)
theorem rho_inj {k i j : Nat} (hk : k < 16) (hi : i < 17) (hj : j < 17) (h : rho k i = rho k j) : i = j := by
  rcases rho_c hk hi with h1 | h1 | h1 <;> rcases rho_c hk hj with h2 | h2 | h2 <;> omega
theorem take_rel {K m k : Nat} {σ : St} {τ : Mt} (h : QR K (m + 1) σ τ) (hk : k < m + 1) : QR K m (f_T_take σ (nI k)).2 (f_D_remove τ (nI k)) ∧ lk (f_T_take σ (nI k)).2 16 = lk σ k ∧ nf (f_T_take σ (nI k)).2 = nf σ ∧ ar (f_T_take σ (nI k)).2 = ar σ ∧ mg (f_T_take σ (nI k)).2 = mg σ ∧ (f_T_take σ (nI k)).1 = lk σ k := by
  obtain ⟨h1, h2, h3, h4, h5, h6⟩ := h
  rw [take_c (by omega)]
  have hc := remove_c (k := k) h3 (by omega) (by omega)
  have hl : ∀ i, i < 17 → tkL (lk σ) k (lk σ k) i = lk σ (rho k i) := fun i hi => tkL_rho hi
  refine ⟨⟨by omega, ?_, ?_, ?_, ?_, ?_⟩, ?_, rfl, rfl, rfl, rfl⟩
  · show zs σ - 1 = nI m
    rw [h2, nI_pred]
  · rw [rem_k.1, h3, nI_pred]
  · intro i hi
    show tkL (lk σ) k (lk σ k) i < 17
    rw [hl i hi]
    exact h4 _ (rho_lt (by omega) hi)
  · intro i j hi hj e
    have e2 : tkL (lk σ) k (lk σ k) i = tkL (lk σ) k (lk σ k) j := e
    rw [hl i hi, hl j hj] at e2
    exact rho_inj (by omega) hi hj (h5 _ _ (rho_lt (by omega) hi) (rho_lt (by omega) hj) e2)
  · intro j hj
    show MR K (mg σ (tkL (lk σ) k (lk σ k) j)) _
    rw [hl j (by omega)]
    by_cases c : j < k
    · have e : rho k j = j := by unfold rho; rw [if_pos c]
      rw [e]
      refine MR.cg (fun x hx => ?_) (h6 j (by omega))
      rw [hc, if_neg (by omega)]
    · have e : rho k j = j + 1 := by unfold rho; rw [if_neg c, if_pos (by omega)]
      rw [e]
      refine MR.cg (fun x hx => ?_) (h6 (j + 1) (by omega))
      rw [hc, if_pos (by omega)]
      congr 1
      omega
  · show tkL (lk σ) k (lk σ k) 16 = lk σ k
    rw [hl 16 (by decide)]
    unfold rho
    rw [if_neg (by omega), if_neg (by decide)]
end
section
/-! ===== the operations, but pump ===== -/
theorem isN_eq {σ : St} {τ : Mt} {a : Int32} : f_T_isNode σ a = f_D_isNode τ a := rfl
theorem Rel.zm {K : Nat} {σ : St} {τ : Mt} (h : Rel K σ τ) : zs σ = mz τ := by
  obtain ⟨_, m, h1, h2, h3, -⟩ := h
  rw [h2, h3]
theorem Rel.node {K : Nat} {σ σ' : St} {τ τ' : Mt} (h : Rel K σ τ) (hN : NS K σ' τ') (k : zs σ' = zs σ ∧ lk σ' = lk σ ∧ mg σ' = mg σ) (k2 : mz τ' = mz τ ∧ am τ' 11 = am τ 11) : Rel K σ' τ' := ⟨hN, h.2.choose, h.2.choose_spec.of k k2⟩
theorem upd01 {f5 g3 : Int32} (h3 : g3 = 0 ∨ g3 = 1) (h5 : f5 = 1 - g3) : (f5 = 0 ↔ ¬ g3 = 0) := by
  rcases h3 with e | e
  · subst e; rw [h5]; decide
  · subst e; rw [h5]; decide
theorem drop_rel {K : Nat} {σ : St} {τ : Mt} {a : Int32} (h : Rel K σ τ) : (f_T_drop σ a).1 = (f_D_drop τ a).1 ∧ Rel K (f_T_drop σ a).2 (f_D_drop τ a).2 := by
  unfold f_T_drop f_D_drop
  rw [h.zm]
  split
  · exact ⟨rfl, h⟩
  · rename_i c1
    split
    · rename_i c2
      refine ⟨rfl, ?_⟩
      obtain ⟨hN, m, hQ⟩ := h
      obtain ⟨j, hj, rfl⟩ := nI_of c1
      rw [hQ.2.2.1, nI_ltI hj (by have := hQ.1; omega)] at c2
      obtain ⟨m', rfl⟩ : ∃ m', m = m' + 1 := ⟨m - 1, by omega⟩
      obtain ⟨q, -, e1, e2, -, -⟩ := take_rel hQ c2
      exact ⟨hN.of e1 e2 (fun i hi _ => rem_k.2 i hi), m', q⟩
    · exact ⟨rfl, h⟩
theorem fuse_rel {K : Nat} {σ : St} {τ : Mt} {a b : Int32} (h : Rel K σ τ) : (f_T_fuse σ a b).1 = (f_D_fuse τ a b).1 ∧ Rel K (f_T_fuse σ a b).2 (f_D_fuse τ a b).2 := by
  unfold f_T_fuse f_D_fuse
  rw [@isN_eq σ τ]
  split
  · exact ⟨rfl, h⟩
  · rename_i c
    have ha := isD_in c
    by_cases hb : 0 ≤ b
    · rw [if_pos hb, if_neg (show ¬ b < -1 by rw [n_le, n_0] at hb; rw [n_lt, n_m1]; omega)]
      exact ⟨rfl, h.node (ns_fuse (vlt ha) h.1) ⟨rfl, rfl, rfl⟩ ⟨rfl, am_o (by decide)⟩⟩
    · have e : (if b < -1 then -1 else b) = -1 := by
        split
        · rfl
        · rename_i c2
          rw [n_le, n_0] at hb
          rw [n_lt, n_m1] at c2
          rw [n_eq, n_m1]
          omega
      rw [if_neg hb, e]
      exact ⟨rfl, h.node (ns_fuse (vlt ha) h.1) ⟨rfl, rfl, rfl⟩ ⟨rfl, am_o (by decide)⟩⟩
theorem crash_rel {K : Nat} {σ : St} {τ : Mt} {a : Int32} (h : Rel K σ τ) : (f_T_crash σ a).1 = (f_D_crash τ a).1 ∧ Rel K (f_T_crash σ a).2 (f_D_crash τ a).2 := by
  unfold f_T_crash f_D_crash
  rw [@isN_eq σ τ]
  split
  · exact ⟨rfl, h⟩
  · rename_i c
    have ha := isD_in c
    obtain ⟨v0, v4, v3, v5, -⟩ := (h.1 _ (vlt ha)).1
    have hu := upd01 v3 v5
    have hd := h.node (ns_down (vlt ha) h.1) ⟨rfl, rfl, rfl⟩ ⟨rfl, by rw [am_o (by decide), am_o (by decide), am_o (by decide)]⟩
    by_cases c2 : am τ 3 a.toNatClampNeg = 0
    · rw [if_neg (fun q => (hu.mp q) c2), if_pos c2]
      exact ⟨rfl, hd⟩
    · rw [if_pos (hu.mpr c2), if_neg c2]
      exact ⟨rfl, hd⟩
theorem recover_rel {K : Nat} {σ : St} {τ : Mt} {a : Int32} (h : Rel K σ τ) : (f_T_recover σ a).1 = (f_D_recover τ a).1 ∧ Rel K (f_T_recover σ a).2 (f_D_recover τ a).2 := by
  unfold f_T_recover f_D_recover
  rw [@isN_eq σ τ]
  split
  · exact ⟨rfl, h⟩
  · rename_i c
    have ha := isD_in c
    obtain ⟨v0, v4, v3, v5, -⟩ := (h.1 _ (vlt ha)).1
    have hu := upd01 v3 v5
    by_cases c2 : am τ 3 a.toNatClampNeg = 0
    · rw [if_neg (fun q => (hu.mp q) c2), if_pos c2]
      exact ⟨rfl, h⟩
    · have c3 : am τ 3 a.toNatClampNeg = 1 := by
        rcases v3 with e | e
        · exact absurd e c2
        · exact e
      rw [if_pos (hu.mpr c2), if_neg c2]
      refine ⟨?_, h.node (ns_rec (vlt ha) h.1 c3) ⟨rfl, rfl, rfl⟩ ⟨rfl, by rw [am_o (by decide), am_o (by decide), am_o (by decide)]⟩⟩
      simp only at v4
      simp [nf_sn, am_da, up2, v4]
theorem rejoin_rel {K : Nat} {σ : St} {τ : Mt} {a : Int32} (h : Rel K σ τ) : (f_T_rejoin σ a).1 = (f_D_rejoin τ a).1 ∧ Rel K (f_T_rejoin σ a).2 (f_D_rejoin τ a).2 := by
  unfold f_T_rejoin f_D_rejoin
  rw [@isN_eq σ τ]
  split
  · exact ⟨rfl, h⟩
  · rename_i c
    have ha := isD_in c
    obtain ⟨v0, v4, v3, v5, v6, -⟩ := (h.1 _ (vlt ha)).1
    simp only at v4 v6
    have hu := upd01 v3 v5
    by_cases c2 : am τ 3 a.toNatClampNeg = 0
    · rw [if_neg (fun q => (hu.mp q) c2), if_pos c2, v6]
      split
      · have hs := send_rel (v := nf σ a.toNatClampNeg 4) h ha (Or.inr rfl) (fun e => absurd e (by decide))
        by_cases c3 : mz τ = 16
        · have z : zs σ = 16 := h.zm.trans c3
          rw [if_pos c3]
          unfold f_T_send
          simp only [if_pos z]
          exact ⟨rfl, h⟩
        · have z : ¬ zs σ = 16 := fun q => c3 (h.zm.symm.trans q)
          have hne : ¬ (f_T_send σ a 3 (nf σ a.toNatClampNeg 4)).1 = none := by
            unfold f_T_send
            rw [if_neg z]
            simp
          rw [if_neg c3, if_neg hne, ← v4]
          exact ⟨rfl, hs⟩
      · exact ⟨rfl, h⟩
    · rw [if_pos (hu.mpr c2), if_neg c2]
      exact ⟨rfl, h⟩
theorem told_rel {K : Nat} {σ : St} {τ : Mt} {a b : Int32} (h : Rel K σ τ) : f_T_told σ a b = f_D_told τ a b := by
  unfold f_T_told f_D_told
  rw [@isN_eq σ τ]
  split
  · rfl
  · rename_i c
    have ha := isD_in c
    obtain ⟨v0, v4, v3, v5, v6, v66, v36, v7, v8, v9, vt, vl⟩ := (h.1 _ (vlt ha)).1
    simp only at v0 v4 v3 v5 v6 v66 v36 v7 v8 v9
    have hu := upd01 v3 v5
    rw [v0, v4, v6, v8, v9]
    split
    · rfl
    · split
      · rfl
      · split
        · by_cases c2 : am τ 3 a.toNatClampNeg = 0
          · rw [if_neg (fun q => (hu.mp q) c2), if_pos c2]
          · rw [if_pos (hu.mpr c2), if_neg c2]
        · split
          · rfl
          · split
            · rcases v66 with e | e
              · rw [if_pos e, if_pos e]
              · have e2 : ¬ am τ 4 a.toNatClampNeg = 0 := by rw [e]; decide
                rw [if_neg e2, if_neg e2, v7 e]
            · rfl
theorem entry_rel {K : Nat} {σ : St} {τ : Mt} {a b x : Int32} (h : Rel K σ τ) : f_T_entry σ a b x = f_D_entry τ a b x := by
  unfold f_T_entry f_D_entry
  rw [@isN_eq σ τ]
  split
  · rfl
  · rename_i c
    have ha := isD_in c
    obtain ⟨v0, v4, v3, v5, v6, v66, v36, v7, v8, v9, vt, vl⟩ := (h.1 _ (vlt ha)).1
    simp only at v4 vl
    rw [v4]
    split
    · rfl
    · rename_i c1
      split
      · rename_i c2
        rw [n_lt, n_0] at c1
        rw [n_lt] at c2
        have hb : vp_in b 64 := vi ⟨by omega, by omega⟩
        obtain ⟨x1, x2, x3⟩ := (h.1 _ (vlt ha)).2 _ (vlt hb)
        rw [x1, x2, x3, ix64 ha ⟨by omega, by omega⟩]
      · rfl
theorem message_rel {K : Nat} {σ : St} {τ : Mt} {a b : Int32} (h : Rel K σ τ) : f_T_message σ a b = f_D_message τ a b := by
  unfold f_T_message f_D_message
  rw [h.zm]
  split
  · rfl
  · rename_i c1
    split
    · rfl
    · rename_i c2
      split
      · rfl
      · rename_i c3
        split
        · rename_i c4
          obtain ⟨hN, m, h1, h2, h3, h4, h5, h6⟩ := h
          obtain ⟨j, hj, rfl⟩ := nI_of c1
          rw [h3, nI_leI (by omega) hj] at c2
          obtain ⟨x0, x1, x2, x3, -⟩ := h6 j (by omega)
          simp only at x0 x1 x2 x3
          rw [nI_clamp hj]
          obtain ⟨q, hq, rfl⟩ := nI_of c3
          have e3 : (3 : Int32) = nI 3 := rfl
          have e9 : (9 : Int32) = nI 9 := rfl
          rw [e3, nI_leI hq (by decide)] at c4
          rw [e9, pk_mul, nI_add, nI_clamp (by omega)]
          have e0 : (0 : Int32) = nI 0 := rfl
          have e1 : (1 : Int32) = nI 1 := rfl
          have e2 : (2 : Int32) = nI 2 := rfl
          rw [e0, e1, e2]
          simp only [nI_eq hq (show 0 < 2 ^ 31 by decide), nI_eq hq (show 1 < 2 ^ 31 by decide), nI_eq hq (show 2 < 2 ^ 31 by decide)]
          rcases (show q = 0 ∨ q = 1 ∨ q = 2 ∨ q = 3 by omega) with rfl | rfl | rfl | rfl
          · rw [if_pos rfl, x0]
          · rw [if_neg (by decide), if_pos rfl, x1]
          · rw [if_neg (by decide), if_neg (by decide), if_pos rfl, x2]
          · rw [if_neg (by decide), if_neg (by decide), if_neg (by decide), x3]
        · rfl
end
section
/-! ===== put, promote, get, same ===== -/
theorem dpb_11 {τ : Mt} {a t k v : Int32} : am (f_D_putBehind τ a t k v).2 11 = am τ 11 := by
  have h := (@dwr_k τ a).2 11 (by decide) (by decide) (by decide) (by decide)
  unfold f_D_putBehind
  split
  · exact h
  · rw [am_o (by decide), am_o (by decide), am_o (by decide), am_o (by decide)]
    exact h
theorem dct_11 {τ : Mt} {a t : Int32} : am (f_D_cutTo τ a t).2 11 = am τ 11 := by
  have h := (@dwr_k τ a).2 11 (by decide) (by decide) (by decide) (by decide)
  unfold f_D_cutTo
  split
  · exact h
  · rw [am_o (by decide)]
    exact h
theorem dbt_11 {τ : Mt} {a t : Int32} : am (f_D_becomeTerm τ a t).2 11 = am τ 11 := by
  have h := (@dwr_k τ a).2 11 (by decide) (by decide) (by decide) (by decide)
  unfold f_D_becomeTerm
  split
  · exact h
  · rw [am_o (by decide)]
    exact h
theorem put_rel {K : Nat} {σ : St} {τ : Mt} {a b x : Int32} (h : Rel K σ τ) : (f_T_put σ a b x).1 = (f_D_put τ a b x).1 ∧ Rel K (f_T_put σ a b x).2 (f_D_put τ a b x).2 := by
  unfold f_T_put f_D_put
  rw [@isN_eq σ τ]
  split
  · exact ⟨rfl, h⟩
  · rename_i c
    have ha := isD_in c
    split
    · exact ⟨rfl, h⟩
    · by_cases c16 : b < 16
      · have c15 : b ≤ 15 := by
          rw [n_lt, n_16] at c16
          rw [n_le, n_15]
          omega
        rw [if_pos c16, if_pos c15]
        obtain ⟨v0, v4, v3, v5, v6, v66, v36, v7, v8, v9, vt, vl⟩ := (h.1 _ (vlt ha)).1
        simp only at v0 v4 v3 v5 v6 v66 v36 v7 v8 v9 vt vl
        have hu := upd01 v3 v5
        by_cases c2 : am τ 3 a.toNatClampNeg = 0
        · rw [if_neg (fun q => (hu.mp q) c2), if_pos c2, v6, v4, h.zm, v0]
          split
          · exact ⟨rfl, h⟩
          · split
            · exact ⟨rfl, h⟩
            · rename_i c64
              split
              · exact ⟨rfl, h⟩
              · rw [n_eq, n_64] at c64
                have hl : vp_in (am τ 2 a.toNatClampNeg) 64 := vi ⟨vl.1, by omega⟩
                obtain ⟨e, hN⟩ := add_rel (t := am τ 1 a.toNatClampNeg) (k := b) (v := x) ha h.1 hl
                rw [e]
                have h1 := h.node hN add_k ⟨dpb_k.1, dpb_11⟩
                split
                · exact ⟨rfl, h1⟩
                · rename_i c5
                  obtain ⟨w0, w4, -⟩ := (hN _ (vlt ha)).1
                  simp only at w4
                  rw [w4]
                  have hl1 : vp_in (am (f_D_putBehind τ a (am τ 1 a.toNatClampNeg) b x).2 2 a.toNatClampNeg - 1) 64 := by
                    rw [dpb_len c5]
                    have h := iv hl
                    have e1 : (am τ 2 a.toNatClampNeg + 1).toInt = (am τ 2 a.toNatClampNeg).toInt + 1 := by rw [n_add (by rw [n_1]; omega) (by rw [n_1]; omega), n_1]
                    exact vi (by rw [n_sub (by rw [n_1, e1]; omega) (by rw [n_1, e1]; omega), n_1, e1]; omega)
                  have h2 := ship_rel h1 ha hl1
                  refine ⟨?_, h2⟩
                  obtain ⟨u0, u4, -⟩ := (h2.1 _ (vlt ha)).1
                  simp only at u4
                  show nf _ _ 4 - 1 = am _ 2 _ - 1
                  rw [u4]
        · rw [if_pos (hu.mpr c2), if_neg c2]
          exact ⟨rfl, h⟩
      · have c15 : ¬ b ≤ 15 := by
          rw [n_lt, n_16] at c16
          rw [n_le, n_15]
          omega
        rw [if_neg c16, if_neg c15]
        exact ⟨rfl, h⟩
theorem bec_2k {σ : St} {n : Nat} {t : Int32} : zs (f_T_promote_43 σ t n).2 = zs σ ∧ lk (f_T_promote_43 σ t n).2 = lk σ ∧ mg (f_T_promote_43 σ t n).2 = mg σ := by
  unfold f_T_promote_43
  split
  · exact bec_k
  · exact bec_k
theorem dpr_k {τ : Mt} {a t : Int32} : mz (f_D_promote_52 τ a t).2 = mz τ ∧ am (f_D_promote_52 τ a t).2 11 = am τ 11 := by
  unfold f_D_promote_52
  split
  · exact ⟨dbt_k.1, dbt_11⟩
  · refine ⟨dbt_k.1, ?_⟩
    rw [am_o (by decide), am_o (by decide)]
    exact dbt_11
theorem promote_rel {K : Nat} {σ : St} {τ : Mt} {a : Int32} (hK : K ≤ 1000000) (h : Rel K σ τ) : (f_T_promote σ a).1 = (f_D_promote τ a).1 ∧ Rel (K + 2) (f_T_promote σ a).2 (f_D_promote τ a).2 := by
  have hle : Rel (K + 2) σ τ := h.le (by omega)
  unfold f_T_promote f_D_promote
  rw [@isN_eq σ τ]
  split
  · exact ⟨rfl, hle⟩
  · rename_i c
    have ha := isD_in c
    obtain ⟨v0, v4, v3, v5, v6, v66, v36, v7, v8, v9, vt, vl⟩ := (h.1 _ (vlt ha)).1
    simp only at v0 v4 v3 v5 v6 v66 v36 v7 v8 v9 vt vl
    have hu := upd01 v3 v5
    by_cases c2 : am τ 3 a.toNatClampNeg = 0
    · rw [if_neg (fun q => (hu.mp q) c2), if_pos c2, v0]
      have ht := vt
      obtain ⟨t, htl, et⟩ : ∃ t : Nat, t ≤ K ∧ am τ 1 a.toNatClampNeg = nI t := by
        refine ⟨(am τ 1 a.toNatClampNeg).toInt.toNat, by omega, ?_⟩
        rw [n_eq, nI_toInt (by omega)]
        omega
      obtain ⟨q, hq, rfl⟩ := vp_in_of ha (by decide)
      have key : ∀ w : Nat, w ≤ K + 2 → (f_T_promote_43 σ (nI w) (nI q).toNatClampNeg).1 = (f_D_promote_52 τ (nI q) (nI w)).1 ∧ Rel (K + 2) (f_T_promote_43 σ (nI w) (nI q).toNatClampNeg).2 (f_D_promote_52 τ (nI q) (nI w)).2 := by
        intro w hw
        obtain ⟨e, hN⟩ := prom_rel (t := nI w) ha hle.1 (by rw [nI_toInt (by omega)]; omega) c2
        exact ⟨e, hle.node hN bec_2k dpr_k⟩
      have e2 : (2 : Int32) = nI 2 := rfl
      have e1 : (1 : Int32) = nI 1 := rfl
      rw [et, e2, e1, nI_add, nI_add, nI_add, pk_rem (by omega) (by decide) (by decide), pk_rem (by omega) (by decide) (by decide)]
      by_cases cp : t % 2 = q
      · rw [if_neg (by rw [nI_eq (by omega) (by omega)]; omega), if_pos (by rw [cp])]
        exact key (t + 2) (by omega)
      · rw [if_pos (by rw [nI_eq (by omega) (by omega)]; omega), if_neg (by rw [nI_eq (by omega) (by omega)]; exact cp)]
        exact key (t + 1) (by omega)
    · rw [if_pos (hu.mpr c2), if_neg c2]
      exact ⟨rfl, hle⟩
/-- the value of the last entry with a key -/
def lastV (f g : Nat → Int32) (b : Int32) : Nat → Int32
  | 0 => 0
  | i + 1 => if f i = b then g i else lastV f g b i
theorem get_T {σ : St} {b : Int32} {n : Nat} (fuel : Nat) : ∀ i : Nat, i < fuel → i ≤ 64 → f_T_get_34 fuel σ b n (nI i + (-1)) = lastV (ar σ (3 * n + 1)) (ar σ (3 * n + 2)) b i := by
  induction fuel with
  | zero => intro i h; exact absurd h (by omega)
  | succ fuel ih =>
    intro i h h64
    cases i with
    | zero =>
      have e : nI 0 + (-1) = (-1 : Int32) := by decide
      rw [f_T_get_34, e, if_pos (by decide), if_neg (by decide)]
      rfl
    | succ i =>
      rw [f_T_get_34, pk_m1, if_neg (nI_pos (by omega)), if_pos (nI_pos' (by omega)), nI_clamp (by omega), ih i (by omega) (by omega)]
      rfl
theorem get_D {τ : Mt} {a b : Int32} {L : Nat} (ha : vp_in a 2) (hL : am τ 2 a.toNatClampNeg = nI L) (hL64 : L ≤ 64) (fuel : Nat) : ∀ j : Nat, j ≤ L → L - j < fuel → f_D_get_24 fuel τ a b (lastV (fun i => am τ 9 (64 * a.toNatClampNeg + i)) (fun i => am τ 10 (64 * a.toNatClampNeg + i)) b j) (nI j) = lastV (fun i => am τ 9 (64 * a.toNatClampNeg + i)) (fun i => am τ 10 (64 * a.toNatClampNeg + i)) b L := by
  induction fuel with
  | zero => intro j h h2; exact absurd h2 (by omega)
  | succ fuel ih =>
    intro j hj h2
    rw [f_D_get_24, hL]
    by_cases c : j = L
    · subst c
      rw [if_pos (nI_le (Nat.le_refl _) (by omega))]
    · have hix : (64 * a + nI j).toNatClampNeg = 64 * a.toNatClampNeg + j := by
        rw [ix64 ha (by rw [nI_toInt (by omega)]; omega), nI_clamp (by omega)]
      rw [if_neg (nI_ge (by omega) (by omega)), hix, nI_1]
      have hi := ih (j + 1) (by omega) (by omega)
      rw [lastV] at hi
      by_cases c2 : am τ 9 (64 * a.toNatClampNeg + j) = b
      · rw [if_pos c2] at hi ⊢
        exact hi
      · rw [if_neg c2] at hi ⊢
        exact hi
theorem lastV_cg {f f' g g' : Nat → Int32} {b : Int32} (L : Nat) (h : ∀ i, i < L → f i = f' i ∧ g i = g' i) : lastV f g b L = lastV f' g' b L := by
  induction L with
  | zero => rfl
  | succ L ih =>
    rw [lastV, lastV, (h L (by omega)).1, (h L (by omega)).2, ih (fun i hi => h i (by omega))]
theorem get_rel {K : Nat} {σ : St} {τ : Mt} {a b : Int32} (h : Rel K σ τ) : f_T_get σ a b = f_D_get τ a b := by
  unfold f_T_get f_D_get
  rw [@isN_eq σ τ]
  split
  · rfl
  · rename_i c
    have ha := isD_in c
    split
    · rfl
    · by_cases c16 : b < 16
      · have c15 : b ≤ 15 := by
          rw [n_lt, n_16] at c16
          rw [n_le, n_15]
          omega
        rw [if_pos c16, if_pos c15]
        obtain ⟨v0, v4, v3, v5, v6, v66, v36, v7, v8, v9, vt, vl⟩ := (h.1 _ (vlt ha)).1
        simp only at v4 vl
        obtain ⟨L, hL, eL⟩ : ∃ L : Nat, L ≤ 64 ∧ am τ 2 a.toNatClampNeg = nI L := by
          refine ⟨(am τ 2 a.toNatClampNeg).toInt.toNat, by omega, ?_⟩
          rw [n_eq, nI_toInt (by omega)]
          omega
        have hd := get_D (b := b) ha eL hL 66 0 (by omega) (by omega)
        rw [v4, eL, show nI L - 1 = nI L + (-1) from by rw [Int32.sub_eq_add_neg], get_T 66 L (by omega) hL]
        have e0 : (0 : Int32) = nI 0 := rfl
        rw [show f_D_get_24 66 τ a b 0 0 = f_D_get_24 66 τ a b 0 (nI 0) from rfl]
        refine Eq.trans ?_ hd.symm
        exact lastV_cg L (fun i hi => ⟨((h.1 _ (vlt ha)).2 i (by omega)).2.1, ((h.1 _ (vlt ha)).2 i (by omega)).2.2⟩)
      · have c15 : ¬ b ≤ 15 := by
          rw [n_lt, n_16] at c16
          rw [n_le, n_15]
          omega
        rw [if_neg c16, if_neg c15]
theorem same_l {K : Nat} {σ : St} {τ : Mt} (h : Rel K σ τ) (fuel : Nat) : ∀ i : Nat, i ≤ 64 → f_T_same_16 fuel σ (nI i) = f_D_same_2 fuel τ (nI i) := by
  induction fuel with
  | zero => intro i _; rfl
  | succ fuel ih =>
    intro i hi
    obtain ⟨u0, u4, -, -, -, -, -, -, -, -, -, ul⟩ := (h.1 0 (by decide)).1
    obtain ⟨w0, w4, -⟩ := (h.1 1 (by decide)).1
    simp only at u4 w4 ul
    rw [f_T_same_16, f_D_same_2]
    have z0 : (0 : Int32).toNatClampNeg = 0 := by decide
    have z1 : (1 : Int32).toNatClampNeg = 1 := by decide
    rw [z0, z1, u4, w4]
    split
    · rfl
    · rename_i c1
      split
      · rfl
      · have hlt : i < 64 := by
          rw [n_le, nI_toInt (by omega)] at c1
          omega
        obtain ⟨a1, a2, a3⟩ := (h.1 0 (by decide)).2 i hlt
        obtain ⟨b1, b2, b3⟩ := (h.1 1 (by decide)).2 i hlt
        have e64 : (64 : Int32) = nI 64 := rfl
        have y : (64 + nI i).toNatClampNeg = 64 * 1 + i := by rw [e64, nI_add, nI_clamp (by omega)]
        have x : (nI i).toNatClampNeg = 64 * 0 + i := by rw [nI_clamp (by omega)]; omega
        have x' : (nI i).toNatClampNeg = i := nI_clamp (by omega)
        rw [y, x', a1, a2, a3, b1, b2, b3, nI_1, ih (i + 1) (by omega)]
        simp only [Nat.mul_zero, Nat.zero_add]
theorem same_rel {K : Nat} {σ : St} {τ : Mt} (h : Rel K σ τ) : f_T_same σ = f_D_same τ := same_l h 66 0 (by decide)
end
section
/-! ===== pump ===== -/
theorem tn0 : (0 : Int32).toNatClampNeg = 0 := by decide
theorem tn1 : (1 : Int32).toNatClampNeg = 1 := by decide
theorem tn2 : (2 : Int32).toNatClampNeg = 2 := by decide
theorem tn3 : (3 : Int32).toNatClampNeg = 3 := by decide
theorem tn4 : (4 : Int32).toNatClampNeg = 4 := by decide
theorem tn5 : (5 : Int32).toNatClampNeg = 5 := by decide
theorem tn6 : (6 : Int32).toNatClampNeg = 6 := by decide
theorem tn7 : (7 : Int32).toNatClampNeg = 7 := by decide
theorem tn8 : (8 : Int32).toNatClampNeg = 8 := by decide
/-- while a message is at work: d is its object, a the node that it comes to -/
def PC (K m : Nat) (σ : St) (τ : Mt) (d : Nat) (a : Int32) : Prop := NS K σ τ ∧ QR K m σ τ ∧ m ≤ 15 ∧ lk σ 16 = d ∧ MR K (mg σ d) (am τ 12) ∧ am τ 12 1 = a
theorem PC.rel {K m d : Nat} {σ : St} {τ : Mt} {a : Int32} (h : PC K m σ τ d a) : Rel K σ τ := ⟨h.1, m, h.2.1⟩
theorem PC.a {K m d : Nat} {σ : St} {τ : Mt} {a : Int32} (h : PC K m σ τ d a) : vp_in a 2 := by
  obtain ⟨_, _, _, _, hM, rfl⟩ := h
  exact hM.2.2.2.2.2.1
theorem PC.to {K m d : Nat} {σ σ' : St} {τ τ' : Mt} {a : Int32} (h : PC K m σ τ d a) (hN : NS K σ' τ') (k : zs σ' = zs σ ∧ lk σ' = lk σ ∧ mg σ' = mg σ) (k2 : mz τ' = mz τ ∧ am τ' 11 = am τ 11) (k3 : am τ' 12 = am τ 12) : PC K m σ' τ' d a := by
  obtain ⟨_, h2, h3, h4, h5, h6⟩ := h
  refine ⟨hN, h2.of k k2, h3, ?_, ?_, ?_⟩
  · rw [k.2.1]; exact h4
  · rw [k.2.2, k3]; exact h5
  · rw [k3]; exact h6
theorem PC.n1 {K m d : Nat} {σ : St} {τ : Mt} {a : Int32} (h : PC K m σ τ d a) : mg σ d 1 = a := by
  obtain ⟨_, _, _, _, hM, rfl⟩ := h
  exact hM.2.1
theorem PC.d12 {K m d : Nat} {σ : St} {τ : Mt} {a b k v : Int32} (h : PC K m σ τ d a) : am (f_D_send τ b k v) 12 = am τ 12 := (dsend_s h.2.1.2.2.1 h.2.2.1).2.1 12 (by decide)
theorem PC.ne {K m d : Nat} {σ : St} {τ : Mt} {a : Int32} (h : PC K m σ τ d a) : ¬ d = lk σ m := by
  obtain ⟨_, h2, h3, rfl, _⟩ := h
  intro e
  have := h2.2.2.2.2.1 16 m (by decide) (by omega) e
  omega
theorem PC.tsend {K m d : Nat} {σ : St} {τ : Mt} {a b k v : Int32} (h : PC K m σ τ d a) : mg (f_T_send σ b k v).2 d = mg σ d := by
  rw [tsend_e h.2.1.2.1 h.2.2.1]
  funext x
  simp [mg_sm, mg_sz, up2, h.ne]
theorem PC.tship {K m d : Nat} {σ : St} {τ : Mt} {a b v : Int32} (h : PC K m σ τ d a) : mg (f_T_ship σ b v) d = mg σ d := by
  unfold f_T_ship
  rw [tsend_e h.2.1.2.1 h.2.2.1]
  simp only [Option.getD_some, if_neg (show ¬ some (lk σ m) = none by simp)]
  funext x
  simp [mg_sm, mg_sz, up2, h.ne]
/-- what shipped leaves -/
def SC (K : Nat) (x : Int32 × St) (τ' τ : Mt) : Prop := x.1 = 1 ∧ Rel K x.2 τ' ∧ am τ' 12 = am τ 12
theorem s195 {K m d : Nat} {σ : St} {τ : Mt} {a v : Int32} (h : PC K m σ τ d a) (hv : vp_in v 64) : SC K (f_T_shipped_195 σ d a.toNatClampNeg v) (f_D_shipped_214 τ a v) τ := by
  unfold f_T_shipped_195 f_D_shipped_214
  rw [h.n1]
  exact ⟨rfl, send_rel h.rel h.a (Or.inl rfl) (fun _ => hv), h.d12⟩
theorem s171 {K m d : Nat} {σ : St} {τ : Mt} {a v : Int32} (h : PC K m σ τ d a) (h1 : am τ 12 0 = 1) (hv : vp_in v 64) : SC K (f_T_shipped_171 σ d a.toNatClampNeg v) (f_D_shipped_182 τ a v) τ := by
  unfold f_T_shipped_171 f_D_shipped_182
  have hM := h.2.2.2.2.1
  obtain ⟨m6, m7, m8, m4, m5, m3, ml⟩ := hM.2.2.2.2.2.2.2.1 h1
  obtain ⟨v0, v4, -⟩ := (h.1 _ (vlt h.a)).1
  simp only at v4
  rw [tn8, m5, v4]
  split
  · exact s195 h hv
  · obtain ⟨e, hN⟩ := cut_rel (t := am τ 12 8) h.a h.1 ml
    have hp := h.to hN cut_k ⟨dct_k.1, dct_11⟩ dct_k.2
    rw [e]
    split
    · exact ⟨rfl, hp.rel, dct_k.2⟩
    · obtain ⟨a1, a2, a3⟩ := s195 hp hv
      exact ⟨a1, a2, a3.trans dct_k.2⟩
theorem s142 {K m d : Nat} {σ : St} {τ : Mt} {a v : Int32} (h : PC K m σ τ d a) (h1 : am τ 12 0 = 1) (hv : vp_in v 64) : SC K (f_T_shipped_142 σ d a.toNatClampNeg v) (f_D_shipped_144 τ a v) τ := by
  unfold f_T_shipped_142 f_D_shipped_144
  have hM := h.2.2.2.2.1
  obtain ⟨m6, m7, m8, m4, m5, m3, ml⟩ := hM.2.2.2.2.2.2.2.1 h1
  obtain ⟨v0, v4, -⟩ := (h.1 _ (vlt h.a)).1
  simp only at v4
  rw [tn4, tn5, tn6, m6, m7, m8, v4]
  split
  · rename_i c
    obtain ⟨e, hN⟩ := add_rel (t := am τ 12 4) (k := am τ 12 5) (v := am τ 12 6) h.a h.1 (by rw [c]; exact hv)
    have hp := h.to hN add_k ⟨dpb_k.1, dpb_11⟩ dpb_k.2
    rw [e]
    split
    · exact ⟨rfl, hp.rel, dpb_k.2⟩
    · obtain ⟨a1, a2, a3⟩ := s171 hp (by rw [dpb_k.2]; exact h1) hv
      exact ⟨a1, a2, a3.trans dpb_k.2⟩
  · exact s171 h h1 hv
theorem s125 {K m d : Nat} {σ : St} {τ : Mt} {a v : Int32} (h : PC K m σ τ d a) (h1 : am τ 12 0 = 1) (hv : vp_in v 64) : SC K (f_T_shipped_125 σ d a.toNatClampNeg v 1) (f_D_shipped_134 τ a v) τ := by
  unfold f_T_shipped_125 f_D_shipped_134
  have h2 := iv hv
  rw [if_neg (by decide)]
  obtain ⟨e, hN⟩ := cut_rel (t := v) h.a h.1 ⟨h2.1, by omega⟩
  have hp := h.to hN cut_k ⟨dct_k.1, dct_11⟩ dct_k.2
  rw [e]
  split
  · exact ⟨rfl, hp.rel, dct_k.2⟩
  · obtain ⟨a1, a2, a3⟩ := s142 hp (by rw [dct_k.2]; exact h1) hv
    exact ⟨a1, a2, a3.trans dct_k.2⟩
theorem s125z {K m d : Nat} {σ : St} {τ : Mt} {a v : Int32} (h : PC K m σ τ d a) (h1 : am τ 12 0 = 1) (hv : vp_in v 64) : SC K (f_T_shipped_125 σ d a.toNatClampNeg v 0) (f_D_shipped_144 τ a v) τ := by
  unfold f_T_shipped_125
  rw [if_pos rfl]
  exact s142 h h1 hv
theorem s73 {K m d : Nat} {σ : St} {τ : Mt} {a v : Int32} (h : PC K m σ τ d a) (h1 : am τ 12 0 = 1) (hv : vp_in v 64) : SC K (f_T_shipped_73 σ d a.toNatClampNeg v) (f_D_shipped_71 τ a v) τ := by
  unfold f_T_shipped_73 f_D_shipped_71
  have h2 := iv hv
  have hM := h.2.2.2.2.1
  obtain ⟨m6, m7, m8, m4, m5, m3, ml⟩ := hM.2.2.2.2.2.2.2.1 h1
  obtain ⟨v0, v4, -⟩ := (h.1 _ (vlt h.a)).1
  simp only at v4
  obtain ⟨x1, x2, x3⟩ := (h.1 _ (vlt h.a)).2 _ (vlt hv)
  rw [tn4, tn5, tn6, m6, m7, m8, v4, x1, x2, x3, ix64 h.a ⟨h2.1, by omega⟩]
  split
  · exact s125z h h1 hv
  · split
    · split
      · split
        · exact s125z h h1 hv
        · exact s125 h h1 hv
      · exact s125 h h1 hv
    · exact s125 h h1 hv
theorem shipped_rel {K m d : Nat} {σ : St} {τ : Mt} {a : Int32} (h : PC K m σ τ d a) (h1 : am τ 12 0 = 1) : SC K (f_T_shipped σ d a.toNatClampNeg) (f_D_shipped τ a (am τ 12 3)) τ := by
  unfold f_T_shipped f_D_shipped
  have hM := h.2.2.2.2.1
  obtain ⟨m6, m7, m8, m4, m5, m3, ml⟩ := hM.2.2.2.2.2.2.2.1 h1
  have e3 := hM.2.2.2.1
  obtain ⟨v0, v4, -, -, -, -, -, -, -, -, -, vl⟩ := (h.1 _ (vlt h.a)).1
  simp only at v4 vl
  have h3 := iv m3
  rw [e3, v4, tn7, m4, h.n1]
  split
  · split
    · exact s73 h h1 m3
    · rename_i c0
      rw [n_le, n_0] at c0
      have e1 : (am τ 12 3 - 1).toInt = (am τ 12 3).toInt - 1 := by rw [n_sub (by rw [n_1]; omega) (by rw [n_1]; omega), n_1]
      have hx : (am τ 12 3 - 1).toNatClampNeg < 64 := by rw [n_cl, e1]; omega
      have e2 := i64 h.a ⟨h3.1, by omega⟩
      have e4 : (64 * a + am τ 12 3 - 1).toInt = 64 * a.toInt + (am τ 12 3).toInt - 1 := by
        have h5 := iv h.a
        rw [n_sub (by rw [n_1, e2]; omega) (by rw [n_1, e2]; omega), n_1, e2]
      have ei : (64 * a + am τ 12 3 - 1).toNatClampNeg = 64 * a.toNatClampNeg + (am τ 12 3 - 1).toNatClampNeg := by
        have h5 := iv h.a
        rw [n_cl, n_cl, n_cl, e1, e4]
        omega
      rw [((h.1 _ (vlt h.a)).2 _ hx).1, ei]
      split
      · exact s73 h h1 m3
      · obtain ⟨e, hN⟩ := cut_rel (t := am τ 12 3 - 1) h.a h.1 (by rw [e1]; omega)
        have hp := h.to hN cut_k ⟨dct_k.1, dct_11⟩ dct_k.2
        rw [e, hp.n1]
        split
        · exact ⟨rfl, hp.rel, dct_k.2⟩
        · exact ⟨rfl, send_rel hp.rel hp.a (Or.inr rfl) (fun e => absurd e (by decide)), hp.d12.trans dct_k.2⟩
  · exact ⟨rfl, send_rel h.rel h.a (Or.inr rfl) (fun e => absurd e (by decide)), h.d12⟩
end
section
/-! ===== acked, wanted, pump ===== -/
/-- shipIfThere where the entry is there -/
theorem sit_y {τ : Mt} {a i : Int32} (h0 : 0 ≤ i.toInt) (h1 : i.toInt < (am τ 2 a.toNatClampNeg).toInt) : f_D_shipIfThere τ a i = f_D_send τ a 1 i := by
  unfold f_D_shipIfThere
  rw [if_neg (by rw [n_lt, n_0]; omega), if_neg (by rw [n_le]; omega)]
theorem sit_n {τ : Mt} {a i : Int32} (h : i.toInt < 0 ∨ (am τ 2 a.toNatClampNeg).toInt ≤ i.toInt) : f_D_shipIfThere τ a i = τ := by
  unfold f_D_shipIfThere
  by_cases c : i.toInt < 0
  · rw [if_pos (by rw [n_lt, n_0]; exact c)]
  · rw [if_neg (by rw [n_lt, n_0]; exact c), if_pos (by rw [n_le]; omega)]
theorem acked_rel {K m d : Nat} {σ : St} {τ : Mt} {a v : Int32} (h : PC K m σ τ d a) (h2 : am τ 12 0 = 2) (hv : v = if nf σ a.toNatClampNeg 7 < mg σ d 3 then mg σ d 3 else nf σ a.toNatClampNeg 7) : Rel K (f_T_acked σ d a.toNatClampNeg) (f_D_shipIfThere (da τ 5 a.toNatClampNeg v) a (am τ 12 3 + 1)) ∧ mg (f_T_acked σ d a.toNatClampNeg) d 0 = am τ 12 0 ∧ am (f_D_shipIfThere (da τ 5 a.toNatClampNeg v) a (am τ 12 3 + 1)) 12 = am τ 12 := by
  have hM := h.2.2.2.2.1
  have m3 := hM.2.2.2.2.2.2.2.2 h2
  have e3 := hM.2.2.2.1
  have e0 := hM.1
  have h3 := iv m3
  unfold f_T_acked
  rw [← hv]
  have hp := h.to (ns_agr (t := v) (vlt h.a) h.1) ⟨rfl, rfl, rfl⟩ ⟨rfl, am_o (by decide)⟩ (am_o (by decide))
  generalize hσ : sn σ a.toNatClampNeg 7 v = σ1 at hp ⊢
  have f3 : mg σ1 d 3 = am τ 12 3 := by rw [← hσ]; exact e3
  have f0 : mg σ1 d 0 = am τ 12 0 := by rw [← hσ]; exact e0
  rw [f3, hp.n1]
  have e12 : am (da τ 5 a.toNatClampNeg v) 12 = am τ 12 := am_o (by decide)
  generalize da τ 5 a.toNatClampNeg v = τ1 at hp e12 ⊢
  obtain ⟨v0, v4, -, -, -, -, -, -, -, -, -, vl⟩ := (hp.1 _ (vlt hp.a)).1
  simp only at v4 vl
  rw [v4]
  have e1 : (am τ 12 3 + 1).toInt = (am τ 12 3).toInt + 1 := by rw [n_add (by rw [n_1]; omega) (by rw [n_1]; omega), n_1]
  split
  · rename_i c
    rw [n_le] at c
    rw [sit_n (Or.inr c)]
    exact ⟨hp.rel, f0, e12⟩
  · rename_i c
    rw [n_le] at c
    rw [sit_y (by omega) (by omega)]
    refine ⟨ship_rel hp.rel hp.a (vi ⟨by omega, by omega⟩), ?_, hp.d12.trans e12⟩
    rw [hp.tship]
    exact f0
theorem wanted_rel {K m d : Nat} {σ : St} {τ : Mt} {a : Int32} (h : PC K m σ τ d a) (h3 : am τ 12 0 = 3) (hp : ¬ am τ 4 a.toNatClampNeg = 0) : (mg (f_T_wanted σ d a.toNatClampNeg) d 0, f_T_wanted σ d a.toNatClampNeg).1 = (f_D_pump_289 τ a).1 ∧ Rel K (f_T_wanted σ d a.toNatClampNeg) (f_D_pump_289 τ a).2 := by
  have hM := h.2.2.2.2.1
  have e3 := hM.2.2.2.1
  have e0 := hM.1
  obtain ⟨v0, v4, -, -, -, -, -, -, -, -, -, vl⟩ := (h.1 _ (vlt h.a)).1
  simp only at v4 vl
  unfold f_T_wanted f_D_pump_289
  rw [tn0, tn3, if_pos h3, if_neg hp, e3, v4, h.n1]
  have fin : ∀ i : Int32, vp_in i 64 → (mg (f_T_ship σ a i) d 0, f_T_ship σ a i).1 = (f_D_pump_354 (f_D_send τ a 1 i)).1 ∧ Rel K (f_T_ship σ a i) (f_D_pump_354 (f_D_send τ a 1 i)).2 := by
    intro i hi
    unfold f_D_pump_354
    rw [tn0, h.d12]
    refine ⟨?_, ship_rel h.rel h.a hi⟩
    show mg (f_T_ship σ a i) d 0 = am τ 12 0
    rw [h.tship]
    exact e0
  have non : (mg σ d 0, σ).1 = (f_D_pump_354 τ).1 ∧ Rel K σ (f_D_pump_354 τ).2 := by
    unfold f_D_pump_354
    rw [tn0]
    exact ⟨e0, h.rel⟩
  by_cases c1 : am τ 12 3 < 0
  · rw [if_pos c1, if_pos c1]
    exact non
  · rw [if_neg c1, if_neg c1]
    rw [n_lt, n_0] at c1
    have el : (am τ 2 a.toNatClampNeg - 1).toInt = (am τ 2 a.toNatClampNeg).toInt - 1 := by rw [n_sub (by rw [n_1]; omega) (by rw [n_1]; omega), n_1]
    unfold f_D_pump_351
    by_cases c2 : am τ 2 a.toNatClampNeg = 0
    · rw [if_pos c2]
      rw [n_eq, n_0] at c2
      rw [if_pos (by rw [n_le]; omega), sit_n (Or.inl (by omega))]
      exact non
    · rw [if_neg c2]
      rw [n_eq, n_0] at c2
      by_cases c3 : am τ 2 a.toNatClampNeg ≤ am τ 12 3
      · rw [if_pos c3]
        rw [n_le] at c3
        rw [if_pos (by rw [n_lt]; omega), sit_y (by omega) (by omega)]
        exact fin _ (vi ⟨by omega, by omega⟩)
      · rw [if_neg c3]
        rw [n_le] at c3
        rw [if_neg (by rw [n_lt]; omega), sit_y (by omega) (by omega)]
        exact fin _ (vi ⟨by omega, by omega⟩)
theorem p105 {K m d : Nat} {σ : St} {τ : Mt} {a : Int32} (h : PC K m σ τ d a) : (f_T_pump_105 σ d a.toNatClampNeg).1 = (f_D_pump_151 τ a).1 ∧ Rel K (f_T_pump_105 σ d a.toNatClampNeg).2 (f_D_pump_151 τ a).2 := by
  have hM := h.2.2.2.2.1
  have e0 := hM.1
  have e3 := hM.2.2.2.1
  have hk := hM.2.2.2.2.1
  obtain ⟨v0, v4, v3, v5, v6, v66, v36, v7, v8, v9, vt, vl⟩ := (h.1 _ (vlt h.a)).1
  simp only at v0 v4 v3 v5 v6 v66 v36 v7 v8 v9 vt vl
  unfold f_T_pump_105 f_D_pump_151
  rw [tn0, e0, v6]
  by_cases k1 : am τ 12 0 = 1
  · rw [if_pos k1, if_pos k1]
    unfold f_D_pump_172
    rw [tn0, tn3]
    rcases v66 with p | p
    · rw [if_pos p, if_neg (by rw [p]; decide), if_pos k1, if_pos p]
      obtain ⟨a1, a2, a3⟩ := shipped_rel h k1
      unfold f_D_pump_354
      rw [tn0, a3, k1]
      exact ⟨a1, a2⟩
    · rw [if_neg (by rw [p]; decide), if_pos p]
      exact ⟨Int32.add_comm _ _, h.rel⟩
  · rw [if_neg k1, if_neg k1]
    unfold f_D_pump_172
    rw [tn0, tn3]
    rcases v66 with p | p
    · rw [if_pos p, if_pos p]
      exact ⟨Int32.add_comm _ _, h.rel⟩
    · have p0 : ¬ am τ 4 a.toNatClampNeg = 0 := by rw [p]; decide
      rw [if_neg p0, if_neg p0, if_neg k1]
      unfold f_D_pump_218
      rw [tn0, tn3]
      by_cases k2 : am τ 12 0 = 2
      · rw [if_pos k2, if_pos k2, if_neg p0]
        have v7' := v7 p
        have e5 : am (da τ 5 a.toNatClampNeg (am τ 5 a.toNatClampNeg)) 12 = am τ 12 := am_o (by decide)
        have e6 : am (da τ 5 a.toNatClampNeg (am τ 12 3)) 12 = am τ 12 := am_o (by decide)
        rw [e5, e6]
        by_cases c : am τ 12 3 ≤ am τ 5 a.toNatClampNeg
        · rw [if_pos c]
          rw [n_le] at c
          obtain ⟨b1, b2, b3⟩ := acked_rel (v := am τ 5 a.toNatClampNeg) h k2 (by rw [v7', e3, if_neg (by rw [n_lt]; omega)])
          unfold f_D_pump_354
          rw [tn0, b3]
          exact ⟨b2, b1⟩
        · rw [if_neg c]
          rw [n_le] at c
          obtain ⟨b1, b2, b3⟩ := acked_rel (v := am τ 12 3) h k2 (by rw [v7', e3, if_pos (by rw [n_lt]; omega)])
          unfold f_D_pump_354
          rw [tn0, b3]
          exact ⟨b2, b1⟩
      · rw [if_neg k2, if_neg k2]
        have k3 : am τ 12 0 = 3 := by
          rcases hk with e | e | e
          · exact absurd e k1
          · exact absurd e k2
          · exact e
        exact wanted_rel h k3 p0
/-- the model's copy of the message -/
theorem pm_11 {fuel c : Nat} {τ : Mt} (hc : c < 9) : f_D_pump_11 (fuel + 1) τ (nI c) = f_D_pump_11 fuel (da τ 12 c (am τ 11 c)) (nI (c + 1)) := by
  have e9 : (9 : Int32) = nI 9 := rfl
  rw [f_D_pump_11, if_neg (by rw [e9, nI_leI (by decide) (by omega)]; omega), nI_1, nI_clamp (by omega)]
theorem pm_c {τ : Mt} : ∃ τc : Mt, f_D_pump_11 10 τ 0 = f_D_pump_11 1 τc 9 ∧ mz τc = mz τ ∧ (∀ j, j ≠ 12 → am τc j = am τ j) ∧ ∀ k, k < 9 → am τc 12 k = am τ 11 k := by
  have key : ∀ (n c : Nat) (τ1 : Mt), c + n = 9 → mz τ1 = mz τ → (∀ j, j ≠ 12 → am τ1 j = am τ j) → (∀ k, k < c → am τ1 12 k = am τ 11 k) → ∃ τc : Mt, f_D_pump_11 (n + 1) τ1 (nI c) = f_D_pump_11 1 τc 9 ∧ mz τc = mz τ ∧ (∀ j, j ≠ 12 → am τc j = am τ j) ∧ ∀ k, k < 9 → am τc 12 k = am τ 11 k := by
    intro n
    induction n with
    | zero =>
      intro c τ1 hc h1 h2 h3
      have : c = 9 := by omega
      subst this
      exact ⟨τ1, rfl, h1, h2, h3⟩
    | succ n ih =>
      intro c τ1 hc h1 h2 h3
      obtain ⟨τc, g1, g2⟩ := ih (c + 1) (da τ1 12 c (am τ1 11 c)) (by omega) h1 (fun j hj => by rw [am_o hj]; exact h2 j hj) (fun k hk => by
        rw [am_s]
        unfold upd
        split
        · rename_i e; rw [e, h2 11 (by decide)]
        · exact h3 k (by omega))
      exact ⟨τc, by rw [pm_11 (by omega)]; exact g1, g2⟩
  exact key 9 0 τ rfl rfl (fun _ _ => rfl) (fun k hk => absurd hk (Nat.not_lt_zero k))
theorem pump_rel {K : Nat} {σ : St} {τ : Mt} (h : Rel K σ τ) : (f_T_pump σ).1 = (f_D_pump τ).1 ∧ Rel K (f_T_pump σ).2 (f_D_pump τ).2 := by
  unfold f_T_pump f_D_pump
  rw [h.zm]
  by_cases cz : mz τ = 0
  · rw [if_pos cz, if_pos cz]
    exact ⟨rfl, h⟩
  · rw [if_neg cz, if_neg cz]
    obtain ⟨hN, m0, hQ⟩ := h
    obtain ⟨m, rfl⟩ : ∃ m, m0 = m + 1 := by
      refine ⟨m0 - 1, ?_⟩
      rcases Nat.eq_zero_or_pos m0 with e | e
      · exfalso
        apply cz
        rw [hQ.2.2.1, e]
        rfl
      · omega
    obtain ⟨τc, ec, c1, c2, c3⟩ := @pm_c τ
    rw [ec, f_D_pump_11, if_pos (show (9 : Int32) ≤ 9 by decide)]
    have hNc : NS K σ τc := hN.of rfl rfl (fun j _ hj => c2 j hj)
    have hQc : QR K (m + 1) σ τc := hQ.of ⟨rfl, rfl, rfl⟩ ⟨c1, c2 11 (by decide)⟩
    obtain ⟨q, q16, e1, e2, e3, e4⟩ := take_rel (k := 0) hQc (by omega)
    have hM0 := hQc.2.2.2.2.2 0 (by omega)
    have e00 : (0 : Int32) = nI 0 := rfl
    rw [← e00] at q q16 e1 e2 e3 e4
    have r12 : am (f_D_remove τc 0) 12 = am τc 12 := rem_k.2 12 (by decide)
    have hNr : NS K (f_T_take σ 0).2 (f_D_remove τc 0) := hNc.of e1 e2 (fun j hj _ => rem_k.2 j hj)
    have hMr : MR K (mg (f_T_take σ 0).2 (f_T_take σ 0).1) (am (f_D_remove τc 0) 12) := by
      rw [e3, e4, r12]
      refine MR.cg (fun j hj => ?_) hM0
      rw [c3 j hj, c2 11 (by decide)]
      congr 1
      omega
    have hP : PC K m (f_T_take σ 0).2 (f_D_remove τc 0) (f_T_take σ 0).1 (am (f_D_remove τc 0) 12 1) := ⟨hNr, q, by have := hQ.1; omega, by rw [q16, e4], hMr, rfl⟩
    generalize (f_T_take σ 0).2 = σ1 at hP ⊢
    generalize (f_T_take σ 0).1 = d at hP ⊢
    generalize f_D_remove τc 0 = τ1 at hP ⊢
    rw [tn0, tn1, tn2]
    have hn1 := hP.n1
    have e20 := hP.2.2.2.2.1.1
    have e22 := hP.2.2.2.2.1.2.2.1
    have etm := hP.2.2.2.2.1.2.2.2.2.2.2.1
    rw [hn1, e22]
    generalize am τ1 12 1 = a at hP hn1 ⊢
    obtain ⟨v0, v4, v3, v5, v6, v66, v36, v7, v8, v9, vt, vl⟩ := (hP.1 _ (vlt hP.a)).1
    simp only at v0 v4 v3 v5 v6 v66 v36 v7 v8 v9 vt vl
    have hu := upd01 v3 v5
    by_cases cd : am τ1 3 a.toNatClampNeg = 0
    · rw [if_neg (fun x => (hu.mp x) cd), if_pos cd, v0]
      split
      · split
        · exact p105 hP
        · obtain ⟨b1, b2, b3⟩ := bec_rel (t := am τ1 12 2) hP.a hP.1 etm
          rw [b1]
          by_cases cb : (f_D_becomeTerm τ1 a (am τ1 12 2)).1 = 0
          · rw [if_pos cb, if_pos cb]
            have hp := hP.to (b2 cb) bec_k ⟨dbt_k.1, dbt_11⟩ dbt_k.2.1
            refine ⟨?_, hp.rel⟩
            exact hp.2.2.2.2.1.1
          · rw [if_neg cb, if_neg cb]
            have hp := hP.to (b3 cb) bec_k ⟨dbt_k.1, by rw [am_o (by decide)]; exact dbt_11⟩ (by rw [am_o (by decide)]; exact dbt_k.2.1)
            exact p105 hp
      · rw [e20]
        by_cases k1 : am τ1 12 0 = 1
        · rw [if_pos k1, if_pos k1]
          unfold f_D_pump_98
          rw [tn0, hP.d12, hP.tsend, e20]
          exact ⟨Int32.add_comm _ _, send_rel hP.rel hP.a (Or.inr rfl) (fun e => absurd e (by decide))⟩
        · rw [if_neg k1, if_neg k1]
          unfold f_D_pump_98
          rw [tn0]
          exact ⟨Int32.add_comm _ _, hP.rel⟩
    · rw [if_pos (hu.mpr cd), if_neg cd, e20]
      exact ⟨Int32.add_comm _ _, hP.rel⟩
end
section
/-! THE CLAIM OUT OF ONE WALK OF THE LAW'S BODY. Your part is whole_start (and what it stands on); all else here is the same for every law, but numbers. -/
def R_law : String := "TwinLogLaw"
def lw_P (b : Addr) (xs : List Int32) (args : Array Value) (s : State) : Prop := args = #[.ref b] ∧ s.IntsAt b xs ∧ xs.length ≤ 2048 ∧ (Jvm.Cond.and given_1 narrow_1).before args s = true
def lw_Q (_ : Array Value) (s : State) (o : Outcome) (t : State) : Prop := o = .returned (some (.int 1)) ∧ Framed s o t [] 600000 7302250
def lw_Z (below : List Frame) (a : Array Value) (s : State) : State → Prop := fun t => ∃ o, t.status = .running ∧ Ended t below o ∧ lw_Q a s o t
/-- the law's own end, with 1 on the stack, nothing written that was there before, its room as the claim has it -/
theorem lw_ret {p : Program} {l : Launch} {e : Env} {s : State} {m : MethodId} {below : List Frame} {meth : Method} {c : Code} {b : Nat} (hx : p.tables.exec = Jvm.exec) (hb : c.code = code) (hr : meth.sig.returnType = ret) (hlocks : meth.locks = false) {pc : Nat} {H : Heap} {ls : Array Slot} (hdg : decode code pc = .ok (.ireturn, 1)) : W p l e room_1 s m #[Value.ref b] below meth c H [] 600000 7302250 (lw_Z below #[Value.ref b] s) (F0 m pc ls [.int 1]) := by
  intro T hT X
  obtain ⟨fs, hret, hrun, hended, hW, hframe⟩ := X.leave (v := some (.int 1)) (hlocks := hlocks) (fun h => by rw [hr] at h; cases h)
  have hmeth' : T.vm.method? m = some meth := X.method'
  refine ⟨T.setFrames fs, ?_, .returned (some (.int 1)), hrun, hended, rfl, ⟨_, rfl⟩, hW, hframe⟩
  jvm_step X.here [X.here.top, hx, hb, hdg, hmeth', hr, ret, narrow_b1]
  (try refine ⟨rfl, ?_⟩); (try refine ⟨rfl, ?_⟩)
  first | (intro acts; rw [hret _ acts rfl rfl rfl]) | rw [hret _ _ rfl rfl rfl]
  exact Steps.refl _
/-- what holds at the law's entry: the machine, the code, the tables' words (any of lw_tbl by 'hts w (by decide +kernel)'), the script of L ints xs at the cell b, what the Statement gives of the start (any of its parts by flat_of_before) -/
def lw_At (p : Program) (s : State) (m : MethodId) (meth : Method) (c : Code) (b L : Nat) (xs : Nat → Int32) : Prop :=
  p.tables.exec = Jvm.exec ∧ c.code = code ∧ meth.sig.returnType = ret ∧ c.maxLocals = 4 ∧ s.vm.findClass R_law = some m.cls ∧ (∀ w ∈ lw_tbl, w.before #[Value.ref b] s = true) ∧ va_X b L xs s s.heap ∧ b < s.heap.size ∧ meth.locks = false ∧ (Jvm.Cond.and given_1 narrow_1).before #[Value.ref b] s = true
end
section
/-! ===== the law ===== -/
def AT (ad : Nat → Nat) : Nat → Prop := fun q => ∃ j, j < 28 ∧ q = ad j
def AD (bd : Nat → Nat) : Nat → Prop := fun q => ∃ j, j < 13 ∧ q = bd j
theorem keepP {D : va_G} {ws : va_W} {A1 A2 : Nat → Prop} {H H1 : Heap} (hP : va_P D classes ws H) (hD : va_D A2 ws) (hsep : ∀ q, A2 q → ¬ A1 q) (hk : ∀ q : Nat, q < H.size → ¬ A1 q → H1[q]? = H[q]?) : va_P D classes ws H1 :=
  hP.kept (fun k q hq => hk q.1 ((hP k q hq).lt) (hsep _ (hD.2 k q hq)))
section LC
variable {p : Program} {l : Launch} {e : Env} {R : Room} {s : State} {m : MethodId} {args : Array Value} {below : List Frame} {meth : Method} {c : Code} {H H0 : Heap} {locs : List Loc} {cells slots : Nat} {Q : State → Prop}
variable {cc : ByteArray} {pc nL : Nat} {ls : Array Slot} {rest st0 : List Value} {D : va_G} {A0 A1 : Nat → Prop} {tys : List (ClassId × FieldType)} {own : String}
theorem lawC {S : Type} {wf : S → va_W} {u0 : S} {x : Int32 × S} {y : MethodName} {bytes : ByteArray} {mL k idx n : Nat} {ret : Option FieldType} {C : String} {bb : Nat} {fs : List Value} {T : u_T} {N : Nat}
    (X : Cx p m c cc nL s args own D tys) (hP : va_P D classes (wf u0) H) (hD : va_D A1 (wf u0)) (hS : va_S A0 H0 H locs) (hA : ∀ q, A1 q → A0 q) (As : List Value)
    (hM : Met l y (Cond.code y bytes mL ret :: BASE) (rmK k) (va_Pc (.ref bb :: As) (Pre D tys A1 (wf u0))) (va_Qi (fun r u => (r, u) = x) (Pst D A1 wf) A1) 0 0 A1)
    (kw : cV own idx C y bytes mL ret n) (q0 ci : Nat) (he : (wf u0)[q0]? = some (bb, .inr (ci, fs))) (hc : classes[ci]? = some (C, T, N)) (hn : As.length = n) {lv : List (Nat × Value)} (hl : lv_has ls nL lv)
    (hst : st0 = As.reverse ++ .ref bb :: rest) (hrm : k + 1 ≤ R.frames ∧ 8 + (mL + 11) + 25 * k ≤ R.locals) (hroom : (rest.map fun v => v.category).sum ≤ 8) (hcs : cells ≤ R.cells ∧ slots ≤ R.slots) (hdg : decode cc pc = .ok (.invokevirtual idx, 3))
    (kk : ∀ (H1 : Heap) (locs1 : List Loc), va_P D classes (wf x.2) H1 → va_D A1 (wf x.2) → (∀ q : Nat, q < H.size → ¬ A1 q → H1[q]? = H[q]?) → va_S A0 H0 H1 locs1 → W p l e R s m args below meth c H1 locs1 cells slots Q (F0 m (pc + 3) ls (.int x.1 :: rest))) : W p l e R s m args below meth c H locs cells slots Q (F0 m pc ls st0) := by
  obtain ⟨S', hK⟩ := X
  refine va_calli (va_runV S' hM (cwV n S'.2.2.2.2 kw.good rfl rfl rfl kw.2.2.2.2.2 hrm) ⟨Pre.blind, va_recv hK.1 hP hc he, fun U hU hW => Pre.warm hP hK hD hU hW⟩ rfl hn hl.1 hst (lv_room hroom) hdg hcs) hS (fun q _ h => hA q h) hA (fun r u t H1 locs1 ht _ hw hB _ hk hS => ?_)
  subst hw
  exact kk H1 locs1 (by rw [← ht]; exact hB.1) hB.2 hk hS
end LC
theorem Rel.mk {K : Nat} {σ : St} {τ : Mt} (h : Rel K σ τ) : (¬ zs σ = 0 → Mk σ (lk σ 0)) ∧ (¬ mz τ = 0 → vp_in (am τ 11 1) 2 ∧ (am τ 11 0 = 1 → vp_in (am τ 11 3) 64)) := by
  obtain ⟨_, m, h1, h2, h3, h4, h5, h6⟩ := h
  have key : ∀ z : Int32, z = nI m → ¬ z = 0 → 0 < m := by
    intro z e hz
    rcases Nat.eq_zero_or_pos m with q | q
    · exact absurd (by rw [e, q]; rfl) hz
    · exact q
  refine ⟨fun hz => ?_, fun hz => ?_⟩
  · obtain ⟨x0, x1, x2, x3, xk, xn, xt, xs, xa⟩ := h6 0 (key _ h2 hz)
    simp only [Nat.mul_zero, Nat.zero_add] at x0 x1 x2 x3 xk xn xt xs xa
    refine ⟨by rw [x1]; exact xn, fun e => ?_, fun e => ?_⟩
    · rw [x3]
      rw [x0] at e
      exact (xs e).2.2.2.2.2.1
    · rw [x3]
      rw [x0] at e
      exact xa e
  · obtain ⟨x0, x1, x2, x3, xk, xn, xt, xs, xa⟩ := h6 0 (key _ h3 hz)
    simp only [Nat.mul_zero, Nat.zero_add] at x0 x1 x2 x3 xk xn xt xs xa
    exact ⟨xn, fun e => (xs e).2.2.2.2.2.1⟩
theorem k_L_13 : cV R_law 13 R_T y_T_put b_T_put 5 (some .int) 3 := ⟨mB 122 rfl rfl, mB 123 rfl rfl, mB 124 rfl rfl, mB 15 rfl rfl, mB 125 rfl rfl, by decide +kernel⟩
theorem k_L_17 : cV R_law 17 R_D y_D_put b_D_put 4 (some .int) 3 := ⟨mB 279 rfl rfl, mB 280 rfl rfl, mB 281 rfl rfl, mB 18 rfl rfl, mB 282 rfl rfl, by decide +kernel⟩
theorem k_L_18 : cV R_law 18 R_T y_T_get b_T_get 5 (some .int) 2 := ⟨mB 153 rfl rfl, mB 154 rfl rfl, mB 155 rfl rfl, mB 15 rfl rfl, mB 156 rfl rfl, by decide +kernel⟩
theorem k_L_22 : cV R_law 22 R_D y_D_get b_D_get 5 (some .int) 2 := ⟨mB 298 rfl rfl, mB 299 rfl rfl, mB 300 rfl rfl, mB 18 rfl rfl, mB 301 rfl rfl, by decide +kernel⟩
theorem k_L_23 : cV R_law 23 R_T y_T_pump b_T_pump 3 (some .int) 0 := ⟨mB 165 rfl rfl, mB 166 rfl rfl, mB 167 rfl rfl, mB 15 rfl rfl, mB 168 rfl rfl, by decide +kernel⟩
theorem k_L_27 : cV R_law 27 R_D y_D_pump b_D_pump 2 (some .int) 0 := ⟨mB 302 rfl rfl, mB 303 rfl rfl, mB 304 rfl rfl, mB 18 rfl rfl, mB 305 rfl rfl, by decide +kernel⟩
theorem k_L_28 : cV R_law 28 R_T y_T_drop b_T_drop 2 (some .boolean) 1 := ⟨mB 157 rfl rfl, mB 158 rfl rfl, mB 159 rfl rfl, mB 15 rfl rfl, mB 160 rfl rfl, by decide +kernel⟩
theorem k_L_32 : cV R_law 32 R_D y_D_drop b_D_drop 2 (some .boolean) 1 := ⟨mB 326 rfl rfl, mB 327 rfl rfl, mB 328 rfl rfl, mB 18 rfl rfl, mB 329 rfl rfl, by decide +kernel⟩
theorem k_L_33 : cV R_law 33 R_T y_T_fuse b_T_fuse 3 (some .int) 2 := ⟨mB 195 rfl rfl, mB 196 rfl rfl, mB 197 rfl rfl, mB 15 rfl rfl, mB 198 rfl rfl, by decide +kernel⟩
theorem k_L_36 : cV R_law 36 R_D y_D_fuse b_D_fuse 3 (some .int) 2 := ⟨mB 330 rfl rfl, mB 331 rfl rfl, mB 332 rfl rfl, mB 18 rfl rfl, mB 333 rfl rfl, by decide +kernel⟩
theorem k_L_37 : cV R_law 37 R_T y_T_crash b_T_crash 3 (some .int) 1 := ⟨mB 199 rfl rfl, mB 200 rfl rfl, mB 201 rfl rfl, mB 15 rfl rfl, mB 202 rfl rfl, by decide +kernel⟩
theorem k_L_41 : cV R_law 41 R_D y_D_crash b_D_crash 3 (some .int) 1 := ⟨mB 334 rfl rfl, mB 335 rfl rfl, mB 336 rfl rfl, mB 18 rfl rfl, mB 337 rfl rfl, by decide +kernel⟩
theorem k_L_42 : cV R_law 42 R_T y_T_recover b_T_recover 3 (some .int) 1 := ⟨mB 204 rfl rfl, mB 205 rfl rfl, mB 206 rfl rfl, mB 15 rfl rfl, mB 207 rfl rfl, by decide +kernel⟩
theorem k_L_45 : cV R_law 45 R_D y_D_recover b_D_recover 2 (some .int) 1 := ⟨mB 338 rfl rfl, mB 339 rfl rfl, mB 340 rfl rfl, mB 18 rfl rfl, mB 341 rfl rfl, by decide +kernel⟩
theorem k_L_46 : cV R_law 46 R_T y_T_promote b_T_promote 4 (some .int) 1 := ⟨mB 208 rfl rfl, mB 209 rfl rfl, mB 210 rfl rfl, mB 15 rfl rfl, mB 211 rfl rfl, by decide +kernel⟩
theorem k_L_49 : cV R_law 49 R_D y_D_promote b_D_promote 3 (some .int) 1 := ⟨mB 342 rfl rfl, mB 343 rfl rfl, mB 344 rfl rfl, mB 18 rfl rfl, mB 345 rfl rfl, by decide +kernel⟩
theorem k_L_50 : cV R_law 50 R_T y_T_rejoin b_T_rejoin 3 (some .int) 1 := ⟨mB 212 rfl rfl, mB 213 rfl rfl, mB 214 rfl rfl, mB 15 rfl rfl, mB 215 rfl rfl, by decide +kernel⟩
theorem k_L_53 : cV R_law 53 R_D y_D_rejoin b_D_rejoin 2 (some .int) 1 := ⟨mB 346 rfl rfl, mB 347 rfl rfl, mB 348 rfl rfl, mB 18 rfl rfl, mB 349 rfl rfl, by decide +kernel⟩
theorem k_L_54 : cV R_law 54 R_T y_T_told b_T_told 4 (some .int) 2 := ⟨mB 216 rfl rfl, mB 217 rfl rfl, mB 218 rfl rfl, mB 15 rfl rfl, mB 219 rfl rfl, by decide +kernel⟩
theorem k_L_57 : cV R_law 57 R_D y_D_told b_D_told 3 (some .int) 2 := ⟨mB 350 rfl rfl, mB 351 rfl rfl, mB 352 rfl rfl, mB 18 rfl rfl, mB 353 rfl rfl, by decide +kernel⟩
theorem k_L_58 : cV R_law 58 R_T y_T_entry b_T_entry 5 (some .int) 3 := ⟨mB 220 rfl rfl, mB 221 rfl rfl, mB 222 rfl rfl, mB 15 rfl rfl, mB 223 rfl rfl, by decide +kernel⟩
theorem k_L_61 : cV R_law 61 R_D y_D_entry b_D_entry 5 (some .int) 3 := ⟨mB 354 rfl rfl, mB 355 rfl rfl, mB 356 rfl rfl, mB 18 rfl rfl, mB 357 rfl rfl, by decide +kernel⟩
theorem k_L_62 : cV R_law 62 R_T y_T_message b_T_message 4 (some .int) 2 := ⟨mB 224 rfl rfl, mB 225 rfl rfl, mB 226 rfl rfl, mB 15 rfl rfl, mB 227 rfl rfl, by decide +kernel⟩
theorem k_L_65 : cV R_law 65 R_D y_D_message b_D_message 3 (some .int) 2 := ⟨mB 358 rfl rfl, mB 359 rfl rfl, mB 360 rfl rfl, mB 18 rfl rfl, mB 361 rfl rfl, by decide +kernel⟩
theorem k_L_66 : cV R_law 66 R_T y_T_same b_T_same 4 (some .int) 0 := ⟨mB 228 rfl rfl, mB 229 rfl rfl, mB 230 rfl rfl, mB 15 rfl rfl, mB 231 rfl rfl, by decide +kernel⟩
theorem k_L_69 : cV R_law 69 R_D y_D_same b_D_same 2 (some .int) 0 := ⟨mB 362 rfl rfl, mB 363 rfl rfl, mB 364 rfl rfl, mB 18 rfl rfl, mB 365 rfl rfl, by decide +kernel⟩
set_option maxHeartbeats 4000000 in
set_option maxRecDepth 100000 in
/-- THE LAW'S LOOP: at its head the two states are related -/
theorem law_loop {p : Program} {l : Launch} {e : Env} {s : State} {m : MethodId} {below : List Frame} {meth : Method} {c : Code} {D : va_G} {ca cb : Nat → ClassId} {ad bd : Nat → Nat} {b L : Nat} {xs : Nat → Int32} (hL : L ≤ 2048) (C0 : lw_At p s m meth c b L xs) (KT : Kx D (tysT ca) s) (KD : Kx D (tysD cb) s)
    (hsT : ∀ q, AT ad q → ¬ AD bd q) (hAT : ∀ q, AT ad q → (fun q : Nat => s.heap.size ≤ q) q) (hAD : ∀ q, AD bd q → (fun q : Nat => s.heap.size ≤ q) q) :
    ∀ (n i : Nat), i ≤ 512 → 513 ≤ i + n → ∀ (σ : St) (τ : Mt), Rel (2 + 2 * i) σ τ → ∀ (H : Heap) (locs : List Loc) (ls : Array Slot), va_P D classes (wT ca ad σ) H → va_D (AT ad) (wT ca ad σ) → va_P D classes (wD cb bd τ) H → va_D (AD bd) (wD cb bd τ) → va_S (fun q : Nat => s.heap.size ≤ q) s.heap H locs → lv_has ls 4 [(3, .int (nI (4 * i))), (2, .ref (bd 0)), (1, .ref (ad 0)), (0, .ref b)] → W p l e room_1 s m #[Value.ref b] below meth c H locs 41 1143 (lw_Z below #[Value.ref b] s) (F0 m 18 ls []) := by
  obtain ⟨hx, hb, hr, hml, hown, hts, hX, hbl, hlocks, hgv⟩ := C0
  have hbA : ¬ (fun q : Nat => s.heap.size ≤ q) b := Nat.not_le.mpr hbl
  have hsD : ∀ q, AD bd q → ¬ AT ad q := fun q h1 h2 => hsT q h2 h1
  have hfx : CallFix p m c code 4 s #[Value.ref b] BASE R_law := ⟨hx, hb, hml, hown, fun w hw => hts w (List.mem_filter.mp hw).1⟩
  have XT : Cx p m c code 4 s #[Value.ref b] R_law D (tysT ca) := ⟨hfx, KT⟩
  have XD : Cx p m c code 4 s #[Value.ref b] R_law D (tysD cb) := ⟨hfx, KD⟩
  intro n
  induction n with
  | zero => intro i h1 h2; exact absurd h2 (by omega)
  | succ n ih =>
    intro i hi hin σ τ hR H locs ls hPT hDT hPD hDD hS hl
    refine lv_iload_n hx hb d_L_law_18 rfl (lv_at hl 0 rfl) ?_
    refine lv_aload_n hx hb d_L_law_19 rfl (lv_at hl 3 rfl) ?_
    refine va_slen hx hb hX hbl hbA hS d_L_law_20 ?_
    refine lv_iconst (v := 4) hx hb d_L_law_21 (by decide) ?_
    refine lv_isub hx hb d_L_law_22 ?_
    have eL : (Int32.ofNat L - 4).toInt = (L : Int) - 4 := by
      have q : (Int32.ofNat L).toInt = (L : Int) := nI_toInt (n := L) (by omega)
      rw [n_sub (by rw [q, n_4]; omega) (by rw [q, n_4]; omega), q, n_4]
    refine lv_icmp_gt (tgt := 465) hx hb d_L_law_23 (by decide) (fun c_23 => ?_) (fun c_23 => ?_)
    · refine lv_iconst (v := 1) hx hb d_L_law_465 (by decide) ?_
      refine va_forget (fun q hq => hS.2.2 q hq) ?_
      refine W.widen (k := 600000) (n := 7302250) (by decide) (by decide) ?_
      exact lw_ret hx hb hr hlocks d_L_law_466
    · rw [n_lt, eL, nI_toInt (by omega)] at c_23
      have hlt : 4 * i + 4 ≤ L := by omega
      have k0 : vp_in (nI (4 * i)) L := vp_in_nI (by omega) (by omega)
      have k1 : vp_in (nI (4 * i) + 1) L := by rw [nI_1]; exact vp_in_nI (by omega) (by omega)
      have k2 : vp_in (nI (4 * i) + 2) L := by rw [show (2 : Int32) = nI 2 from rfl, nI_add]; exact vp_in_nI (by omega) (by omega)
      have k3 : vp_in (nI (4 * i) + 3) L := by rw [show (3 : Int32) = nI 3 from rfl, nI_add]; exact vp_in_nI (by omega) (by omega)
      have cont : ∀ (σ' : St) (τ' : Mt) (H : Heap) (locs : List Loc), Rel (2 + 2 * i + 2) σ' τ' → va_P D classes (wT ca ad σ') H → va_D (AT ad) (wT ca ad σ') → va_P D classes (wD cb bd τ') H → va_D (AD bd) (wD cb bd τ') → va_S (fun q : Nat => s.heap.size ≤ q) s.heap H locs → W p l e room_1 s m #[Value.ref b] below meth c H locs 41 1143 (lw_Z below #[Value.ref b] s) (F0 m 459 ls []) := by
        intro σ' τ' H locs hR' g1 g2 g3 g4 g5
        refine lv_iinc (v := nI (4 * (i + 1))) (lv' := [(3, .int (nI (4 * (i + 1)))), (2, .ref (bd 0)), (1, .ref (ad 0)), (0, .ref b)]) hx hb d_L_law_459 hl (k := 0) rfl (by rw [show Int32.ofInt 4 = nI 4 from rfl, nI_add]; rfl) (by decide) rfl (fun ls hl => ?_)
        refine lv_goto (tgt := 18) hx hb d_L_law_462 (by decide) ?_
        exact ih (i + 1) (by omega) (by omega) σ' τ' (by rw [show 2 + 2 * (i + 1) = 2 + 2 * i + 2 by omega]; exact hR') H locs ls g1 g2 g3 g4 g5 hl
      refine lv_aload_n hx hb d_L_law_26 rfl (lv_at hl 3 rfl) ?_
      refine lv_iload_n hx hb d_L_law_27 rfl (lv_at hl 0 rfl) ?_
      refine va_sld hx hb hX hbl hbA hS k0 d_L_law_28 ?_
      refine lv_bipush (v := 15) hx hb d_L_law_29 (by decide) ?_
      refine lv_iand hx hb d_L_law_31 ?_
      obtain ⟨j, hj, ej⟩ := pk_andE (xs (nI (4 * i)).toNatClampNeg) (m := 15) 4 (by decide)
      rw [ej]
      rcases (show j = 0 ∨ j = 1 ∨ j = 2 ∨ j = 3 ∨ j = 4 ∨ j = 5 ∨ j = 6 ∨ j = 7 ∨ j = 8 ∨ j = 9 ∨ j = 10 ∨ j = 11 ∨ j = 12 ∨ j = 13 ∨ j = 14 ∨ j = 15 by omega) with rfl | rfl | rfl | rfl | rfl | rfl | rfl | rfl | rfl | rfl | rfl | rfl | rfl | rfl | rfl | rfl
      · refine lv_tableIn (tgt := 100) (off := 68) hx hb d_L_law_32 (by decide) (by decide) (by decide) (by decide) ?_
        refine lv_aload_n hx hb d_L_law_100 rfl (lv_at hl 2 rfl) ?_
        refine lv_aload_n hx hb d_L_law_101 rfl (lv_at hl 3 rfl) ?_
        refine lv_iload_n hx hb d_L_law_102 rfl (lv_at hl 0 rfl) ?_
        refine lv_iconst (v := 1) hx hb d_L_law_103 (by decide) ?_
        refine lv_iadd hx hb d_L_law_104 ?_
        refine va_sld hx hb hX hbl hbA hS k1 d_L_law_105 ?_
        refine lv_aload_n hx hb d_L_law_106 rfl (lv_at hl 3 rfl) ?_
        refine lv_iload_n hx hb d_L_law_107 rfl (lv_at hl 0 rfl) ?_
        refine lv_iconst (v := 2) hx hb d_L_law_108 (by decide) ?_
        refine lv_iadd hx hb d_L_law_109 ?_
        refine va_sld hx hb hX hbl hbA hS k2 d_L_law_110 ?_
        refine lv_aload_n hx hb d_L_law_111 rfl (lv_at hl 3 rfl) ?_
        refine lv_iload_n hx hb d_L_law_112 rfl (lv_at hl 0 rfl) ?_
        refine lv_iconst (v := 3) hx hb d_L_law_113 (by decide) ?_
        refine lv_iadd hx hb d_L_law_114 ?_
        refine va_sld hx hb hX hbl hbA hS k3 d_L_law_115 ?_
        refine lawC (wf := wT ca ad) (u0 := σ) (x := (f_T_put σ (xs (nI (4 * i) + 1).toNatClampNeg) (xs (nI (4 * i) + 2).toNatClampNeg) (xs (nI (4 * i) + 3).toNatClampNeg))) (T := F_T) (N := 3) XT hPT hDT hS hAT [.int (xs (nI (4 * i) + 1).toNatClampNeg), .int (xs (nI (4 * i) + 2).toNatClampNeg), .int (xs (nI (4 * i) + 3).toNatClampNeg)] (c_T_put l D ca ad (AT ad) σ (xs (nI (4 * i) + 1).toNatClampNeg) (xs (nI (4 * i) + 2).toNatClampNeg) (xs (nI (4 * i) + 3).toNatClampNeg) hR.Bs) k_L_13 0 0 (mw_atE (by decide) rfl) rfl rfl hl rfl ⟨Nat.le_of_ble_eq_true rfl, Nat.le_of_ble_eq_true rfl⟩ (Nat.le_of_ble_eq_true rfl) ⟨Nat.le_of_ble_eq_true rfl, Nat.le_of_ble_eq_true rfl⟩ d_L_law_116 (fun H1 locs1 hPT1 hDT1 hk1 hS1 => ?_)
        have hPD1 := keepP hPD hDD hsD hk1
        refine lv_aload_n hx hb d_L_law_119 rfl (lv_at hl 1 rfl) ?_
        refine lv_aload_n hx hb d_L_law_120 rfl (lv_at hl 3 rfl) ?_
        refine lv_iload_n hx hb d_L_law_121 rfl (lv_at hl 0 rfl) ?_
        refine lv_iconst (v := 1) hx hb d_L_law_122 (by decide) ?_
        refine lv_iadd hx hb d_L_law_123 ?_
        refine va_sld hx hb hX hbl hbA hS1 k1 d_L_law_124 ?_
        refine lv_aload_n hx hb d_L_law_125 rfl (lv_at hl 3 rfl) ?_
        refine lv_iload_n hx hb d_L_law_126 rfl (lv_at hl 0 rfl) ?_
        refine lv_iconst (v := 2) hx hb d_L_law_127 (by decide) ?_
        refine lv_iadd hx hb d_L_law_128 ?_
        refine va_sld hx hb hX hbl hbA hS1 k2 d_L_law_129 ?_
        refine lv_aload_n hx hb d_L_law_130 rfl (lv_at hl 3 rfl) ?_
        refine lv_iload_n hx hb d_L_law_131 rfl (lv_at hl 0 rfl) ?_
        refine lv_iconst (v := 3) hx hb d_L_law_132 (by decide) ?_
        refine lv_iadd hx hb d_L_law_133 ?_
        refine va_sld hx hb hX hbl hbA hS1 k3 d_L_law_134 ?_
        refine lawC (wf := wD cb bd) (u0 := τ) (x := (f_D_put τ (xs (nI (4 * i) + 1).toNatClampNeg) (xs (nI (4 * i) + 2).toNatClampNeg) (xs (nI (4 * i) + 3).toNatClampNeg))) (T := F_D) (N := 13) XD hPD1 hDD hS1 hAD [.int (xs (nI (4 * i) + 1).toNatClampNeg), .int (xs (nI (4 * i) + 2).toNatClampNeg), .int (xs (nI (4 * i) + 3).toNatClampNeg)] (c_D_put l D cb bd (AD bd) τ (xs (nI (4 * i) + 1).toNatClampNeg) (xs (nI (4 * i) + 2).toNatClampNeg) (xs (nI (4 * i) + 3).toNatClampNeg) hR.Ds) k_L_17 0 3 (mw_atE (by decide) rfl) rfl rfl hl rfl ⟨Nat.le_of_ble_eq_true rfl, Nat.le_of_ble_eq_true rfl⟩ (Nat.le_of_ble_eq_true rfl) ⟨Nat.le_of_ble_eq_true rfl, Nat.le_of_ble_eq_true rfl⟩ d_L_law_135 (fun H2 locs2 hPD2 hDD2 hk2 hS2 => ?_)
        have hPT2 := keepP hPT1 hDT1 hsT hk2
        have hr2 := put_rel (a := (xs (nI (4 * i) + 1).toNatClampNeg)) (b := (xs (nI (4 * i) + 2).toNatClampNeg)) (x := (xs (nI (4 * i) + 3).toNatClampNeg)) hR
        refine lv_icmp_eq (tgt := 459) hx hb d_L_law_138 (by decide) (fun _ => ?_) (fun c9 => absurd hr2.1 c9)
        exact cont _ _ _ _ (hr2.2.le (by omega)) hPT2 hDT1 hPD2 hDD2 hS2
      · refine lv_tableIn (tgt := 143) (off := 111) hx hb d_L_law_32 (by decide) (by decide) (by decide) (by decide) ?_
        refine lv_aload_n hx hb d_L_law_143 rfl (lv_at hl 2 rfl) ?_
        refine lv_aload_n hx hb d_L_law_144 rfl (lv_at hl 3 rfl) ?_
        refine lv_iload_n hx hb d_L_law_145 rfl (lv_at hl 0 rfl) ?_
        refine lv_iconst (v := 1) hx hb d_L_law_146 (by decide) ?_
        refine lv_iadd hx hb d_L_law_147 ?_
        refine va_sld hx hb hX hbl hbA hS k1 d_L_law_148 ?_
        refine lv_aload_n hx hb d_L_law_149 rfl (lv_at hl 3 rfl) ?_
        refine lv_iload_n hx hb d_L_law_150 rfl (lv_at hl 0 rfl) ?_
        refine lv_iconst (v := 2) hx hb d_L_law_151 (by decide) ?_
        refine lv_iadd hx hb d_L_law_152 ?_
        refine va_sld hx hb hX hbl hbA hS k2 d_L_law_153 ?_
        refine lawC (wf := wT ca ad) (u0 := σ) (x := (f_T_get σ (xs (nI (4 * i) + 1).toNatClampNeg) (xs (nI (4 * i) + 2).toNatClampNeg), σ)) (T := F_T) (N := 3) XT hPT hDT hS hAT [.int (xs (nI (4 * i) + 1).toNatClampNeg), .int (xs (nI (4 * i) + 2).toNatClampNeg)] (c_T_get l D ca ad (AT ad) σ (xs (nI (4 * i) + 1).toNatClampNeg) (xs (nI (4 * i) + 2).toNatClampNeg) hR.Bs) k_L_18 0 0 (mw_atE (by decide) rfl) rfl rfl hl rfl ⟨Nat.le_of_ble_eq_true rfl, Nat.le_of_ble_eq_true rfl⟩ (Nat.le_of_ble_eq_true rfl) ⟨Nat.le_of_ble_eq_true rfl, Nat.le_of_ble_eq_true rfl⟩ d_L_law_154 (fun H1 locs1 hPT1 hDT1 hk1 hS1 => ?_)
        have hPD1 := keepP hPD hDD hsD hk1
        refine lv_aload_n hx hb d_L_law_157 rfl (lv_at hl 1 rfl) ?_
        refine lv_aload_n hx hb d_L_law_158 rfl (lv_at hl 3 rfl) ?_
        refine lv_iload_n hx hb d_L_law_159 rfl (lv_at hl 0 rfl) ?_
        refine lv_iconst (v := 1) hx hb d_L_law_160 (by decide) ?_
        refine lv_iadd hx hb d_L_law_161 ?_
        refine va_sld hx hb hX hbl hbA hS1 k1 d_L_law_162 ?_
        refine lv_aload_n hx hb d_L_law_163 rfl (lv_at hl 3 rfl) ?_
        refine lv_iload_n hx hb d_L_law_164 rfl (lv_at hl 0 rfl) ?_
        refine lv_iconst (v := 2) hx hb d_L_law_165 (by decide) ?_
        refine lv_iadd hx hb d_L_law_166 ?_
        refine va_sld hx hb hX hbl hbA hS1 k2 d_L_law_167 ?_
        refine lawC (wf := wD cb bd) (u0 := τ) (x := (f_D_get τ (xs (nI (4 * i) + 1).toNatClampNeg) (xs (nI (4 * i) + 2).toNatClampNeg), τ)) (T := F_D) (N := 13) XD hPD1 hDD hS1 hAD [.int (xs (nI (4 * i) + 1).toNatClampNeg), .int (xs (nI (4 * i) + 2).toNatClampNeg)] (c_D_get l D cb bd (AD bd) τ (xs (nI (4 * i) + 1).toNatClampNeg) (xs (nI (4 * i) + 2).toNatClampNeg) hR.Ds) k_L_22 0 3 (mw_atE (by decide) rfl) rfl rfl hl rfl ⟨Nat.le_of_ble_eq_true rfl, Nat.le_of_ble_eq_true rfl⟩ (Nat.le_of_ble_eq_true rfl) ⟨Nat.le_of_ble_eq_true rfl, Nat.le_of_ble_eq_true rfl⟩ d_L_law_168 (fun H2 locs2 hPD2 hDD2 hk2 hS2 => ?_)
        have hPT2 := keepP hPT1 hDT1 hsT hk2
        have hr2 := get_rel (a := (xs (nI (4 * i) + 1).toNatClampNeg)) (b := (xs (nI (4 * i) + 2).toNatClampNeg)) hR
        refine lv_icmp_eq (tgt := 459) hx hb d_L_law_171 (by decide) (fun _ => ?_) (fun c9 => absurd hr2 c9)
        exact cont _ _ _ _ (hR.le (by omega)) hPT2 hDT1 hPD2 hDD2 hS2
      · refine lv_tableIn (tgt := 176) (off := 144) hx hb d_L_law_32 (by decide) (by decide) (by decide) (by decide) ?_
        refine lv_aload_n hx hb d_L_law_176 rfl (lv_at hl 2 rfl) ?_
        refine lawC (wf := wT ca ad) (u0 := σ) (x := (f_T_pump σ)) (T := F_T) (N := 3) XT hPT hDT hS hAT [] (c_T_pump l D ca ad (AT ad) σ hR.Bs hR.mk.1) k_L_23 0 0 (mw_atE (by decide) rfl) rfl rfl hl rfl ⟨Nat.le_of_ble_eq_true rfl, Nat.le_of_ble_eq_true rfl⟩ (Nat.le_of_ble_eq_true rfl) ⟨Nat.le_of_ble_eq_true rfl, Nat.le_of_ble_eq_true rfl⟩ d_L_law_177 (fun H1 locs1 hPT1 hDT1 hk1 hS1 => ?_)
        have hPD1 := keepP hPD hDD hsD hk1
        refine lv_aload_n hx hb d_L_law_180 rfl (lv_at hl 1 rfl) ?_
        refine lawC (wf := wD cb bd) (u0 := τ) (x := (f_D_pump τ)) (T := F_D) (N := 13) XD hPD1 hDD hS1 hAD [] (c_D_pump l D cb bd (AD bd) τ hR.Ds hR.mk.2) k_L_27 0 3 (mw_atE (by decide) rfl) rfl rfl hl rfl ⟨Nat.le_of_ble_eq_true rfl, Nat.le_of_ble_eq_true rfl⟩ (Nat.le_of_ble_eq_true rfl) ⟨Nat.le_of_ble_eq_true rfl, Nat.le_of_ble_eq_true rfl⟩ d_L_law_181 (fun H2 locs2 hPD2 hDD2 hk2 hS2 => ?_)
        have hPT2 := keepP hPT1 hDT1 hsT hk2
        have hr2 := pump_rel hR
        refine lv_icmp_eq (tgt := 459) hx hb d_L_law_184 (by decide) (fun _ => ?_) (fun c9 => absurd hr2.1 c9)
        exact cont _ _ _ _ (hr2.2.le (by omega)) hPT2 hDT1 hPD2 hDD2 hS2
      · refine lv_tableIn (tgt := 189) (off := 157) hx hb d_L_law_32 (by decide) (by decide) (by decide) (by decide) ?_
        refine lv_aload_n hx hb d_L_law_189 rfl (lv_at hl 2 rfl) ?_
        refine lv_aload_n hx hb d_L_law_190 rfl (lv_at hl 3 rfl) ?_
        refine lv_iload_n hx hb d_L_law_191 rfl (lv_at hl 0 rfl) ?_
        refine lv_iconst (v := 1) hx hb d_L_law_192 (by decide) ?_
        refine lv_iadd hx hb d_L_law_193 ?_
        refine va_sld hx hb hX hbl hbA hS k1 d_L_law_194 ?_
        refine lawC (wf := wT ca ad) (u0 := σ) (x := (f_T_drop σ (xs (nI (4 * i) + 1).toNatClampNeg))) (T := F_T) (N := 3) XT hPT hDT hS hAT [.int (xs (nI (4 * i) + 1).toNatClampNeg)] (c_T_drop l D ca ad (AT ad) σ (xs (nI (4 * i) + 1).toNatClampNeg) hR.Bs.1) k_L_28 0 0 (mw_atE (by decide) rfl) rfl rfl hl rfl ⟨Nat.le_of_ble_eq_true rfl, Nat.le_of_ble_eq_true rfl⟩ (Nat.le_of_ble_eq_true rfl) ⟨Nat.le_of_ble_eq_true rfl, Nat.le_of_ble_eq_true rfl⟩ d_L_law_195 (fun H1 locs1 hPT1 hDT1 hk1 hS1 => ?_)
        have hPD1 := keepP hPD hDD hsD hk1
        refine lv_aload_n hx hb d_L_law_198 rfl (lv_at hl 1 rfl) ?_
        refine lv_aload_n hx hb d_L_law_199 rfl (lv_at hl 3 rfl) ?_
        refine lv_iload_n hx hb d_L_law_200 rfl (lv_at hl 0 rfl) ?_
        refine lv_iconst (v := 1) hx hb d_L_law_201 (by decide) ?_
        refine lv_iadd hx hb d_L_law_202 ?_
        refine va_sld hx hb hX hbl hbA hS1 k1 d_L_law_203 ?_
        refine lawC (wf := wD cb bd) (u0 := τ) (x := (f_D_drop τ (xs (nI (4 * i) + 1).toNatClampNeg))) (T := F_D) (N := 13) XD hPD1 hDD hS1 hAD [.int (xs (nI (4 * i) + 1).toNatClampNeg)] (c_D_drop l D cb bd (AD bd) τ (xs (nI (4 * i) + 1).toNatClampNeg) hR.Ds.1) k_L_32 0 3 (mw_atE (by decide) rfl) rfl rfl hl rfl ⟨Nat.le_of_ble_eq_true rfl, Nat.le_of_ble_eq_true rfl⟩ (Nat.le_of_ble_eq_true rfl) ⟨Nat.le_of_ble_eq_true rfl, Nat.le_of_ble_eq_true rfl⟩ d_L_law_204 (fun H2 locs2 hPD2 hDD2 hk2 hS2 => ?_)
        have hPT2 := keepP hPT1 hDT1 hsT hk2
        have hr2 := drop_rel (a := (xs (nI (4 * i) + 1).toNatClampNeg)) hR
        refine lv_icmp_eq (tgt := 459) hx hb d_L_law_207 (by decide) (fun _ => ?_) (fun c9 => absurd hr2.1 c9)
        exact cont _ _ _ _ (hr2.2.le (by omega)) hPT2 hDT1 hPD2 hDD2 hS2
      · refine lv_tableIn (tgt := 212) (off := 180) hx hb d_L_law_32 (by decide) (by decide) (by decide) (by decide) ?_
        refine lv_aload_n hx hb d_L_law_212 rfl (lv_at hl 2 rfl) ?_
        refine lv_aload_n hx hb d_L_law_213 rfl (lv_at hl 3 rfl) ?_
        refine lv_iload_n hx hb d_L_law_214 rfl (lv_at hl 0 rfl) ?_
        refine lv_iconst (v := 1) hx hb d_L_law_215 (by decide) ?_
        refine lv_iadd hx hb d_L_law_216 ?_
        refine va_sld hx hb hX hbl hbA hS k1 d_L_law_217 ?_
        refine lv_aload_n hx hb d_L_law_218 rfl (lv_at hl 3 rfl) ?_
        refine lv_iload_n hx hb d_L_law_219 rfl (lv_at hl 0 rfl) ?_
        refine lv_iconst (v := 2) hx hb d_L_law_220 (by decide) ?_
        refine lv_iadd hx hb d_L_law_221 ?_
        refine va_sld hx hb hX hbl hbA hS k2 d_L_law_222 ?_
        refine lawC (wf := wT ca ad) (u0 := σ) (x := (f_T_fuse σ (xs (nI (4 * i) + 1).toNatClampNeg) (xs (nI (4 * i) + 2).toNatClampNeg))) (T := F_T) (N := 3) XT hPT hDT hS hAT [.int (xs (nI (4 * i) + 1).toNatClampNeg), .int (xs (nI (4 * i) + 2).toNatClampNeg)] (c_T_fuse l D ca ad (AT ad) σ (xs (nI (4 * i) + 1).toNatClampNeg) (xs (nI (4 * i) + 2).toNatClampNeg) ) k_L_33 0 0 (mw_atE (by decide) rfl) rfl rfl hl rfl ⟨Nat.le_of_ble_eq_true rfl, Nat.le_of_ble_eq_true rfl⟩ (Nat.le_of_ble_eq_true rfl) ⟨Nat.le_of_ble_eq_true rfl, Nat.le_of_ble_eq_true rfl⟩ d_L_law_223 (fun H1 locs1 hPT1 hDT1 hk1 hS1 => ?_)
        have hPD1 := keepP hPD hDD hsD hk1
        refine lv_aload_n hx hb d_L_law_226 rfl (lv_at hl 1 rfl) ?_
        refine lv_aload_n hx hb d_L_law_227 rfl (lv_at hl 3 rfl) ?_
        refine lv_iload_n hx hb d_L_law_228 rfl (lv_at hl 0 rfl) ?_
        refine lv_iconst (v := 1) hx hb d_L_law_229 (by decide) ?_
        refine lv_iadd hx hb d_L_law_230 ?_
        refine va_sld hx hb hX hbl hbA hS1 k1 d_L_law_231 ?_
        refine lv_aload_n hx hb d_L_law_232 rfl (lv_at hl 3 rfl) ?_
        refine lv_iload_n hx hb d_L_law_233 rfl (lv_at hl 0 rfl) ?_
        refine lv_iconst (v := 2) hx hb d_L_law_234 (by decide) ?_
        refine lv_iadd hx hb d_L_law_235 ?_
        refine va_sld hx hb hX hbl hbA hS1 k2 d_L_law_236 ?_
        refine lawC (wf := wD cb bd) (u0 := τ) (x := (f_D_fuse τ (xs (nI (4 * i) + 1).toNatClampNeg) (xs (nI (4 * i) + 2).toNatClampNeg))) (T := F_D) (N := 13) XD hPD1 hDD hS1 hAD [.int (xs (nI (4 * i) + 1).toNatClampNeg), .int (xs (nI (4 * i) + 2).toNatClampNeg)] (c_D_fuse l D cb bd (AD bd) τ (xs (nI (4 * i) + 1).toNatClampNeg) (xs (nI (4 * i) + 2).toNatClampNeg) ) k_L_36 0 3 (mw_atE (by decide) rfl) rfl rfl hl rfl ⟨Nat.le_of_ble_eq_true rfl, Nat.le_of_ble_eq_true rfl⟩ (Nat.le_of_ble_eq_true rfl) ⟨Nat.le_of_ble_eq_true rfl, Nat.le_of_ble_eq_true rfl⟩ d_L_law_237 (fun H2 locs2 hPD2 hDD2 hk2 hS2 => ?_)
        have hPT2 := keepP hPT1 hDT1 hsT hk2
        have hr2 := fuse_rel (a := (xs (nI (4 * i) + 1).toNatClampNeg)) (b := (xs (nI (4 * i) + 2).toNatClampNeg)) hR
        refine lv_icmp_eq (tgt := 459) hx hb d_L_law_240 (by decide) (fun _ => ?_) (fun c9 => absurd hr2.1 c9)
        exact cont _ _ _ _ (hr2.2.le (by omega)) hPT2 hDT1 hPD2 hDD2 hS2
      · refine lv_tableIn (tgt := 245) (off := 213) hx hb d_L_law_32 (by decide) (by decide) (by decide) (by decide) ?_
        refine lv_aload_n hx hb d_L_law_245 rfl (lv_at hl 2 rfl) ?_
        refine lv_aload_n hx hb d_L_law_246 rfl (lv_at hl 3 rfl) ?_
        refine lv_iload_n hx hb d_L_law_247 rfl (lv_at hl 0 rfl) ?_
        refine lv_iconst (v := 1) hx hb d_L_law_248 (by decide) ?_
        refine lv_iadd hx hb d_L_law_249 ?_
        refine va_sld hx hb hX hbl hbA hS k1 d_L_law_250 ?_
        refine lawC (wf := wT ca ad) (u0 := σ) (x := (f_T_crash σ (xs (nI (4 * i) + 1).toNatClampNeg))) (T := F_T) (N := 3) XT hPT hDT hS hAT [.int (xs (nI (4 * i) + 1).toNatClampNeg)] (c_T_crash l D ca ad (AT ad) σ (xs (nI (4 * i) + 1).toNatClampNeg) ) k_L_37 0 0 (mw_atE (by decide) rfl) rfl rfl hl rfl ⟨Nat.le_of_ble_eq_true rfl, Nat.le_of_ble_eq_true rfl⟩ (Nat.le_of_ble_eq_true rfl) ⟨Nat.le_of_ble_eq_true rfl, Nat.le_of_ble_eq_true rfl⟩ d_L_law_251 (fun H1 locs1 hPT1 hDT1 hk1 hS1 => ?_)
        have hPD1 := keepP hPD hDD hsD hk1
        refine lv_aload_n hx hb d_L_law_254 rfl (lv_at hl 1 rfl) ?_
        refine lv_aload_n hx hb d_L_law_255 rfl (lv_at hl 3 rfl) ?_
        refine lv_iload_n hx hb d_L_law_256 rfl (lv_at hl 0 rfl) ?_
        refine lv_iconst (v := 1) hx hb d_L_law_257 (by decide) ?_
        refine lv_iadd hx hb d_L_law_258 ?_
        refine va_sld hx hb hX hbl hbA hS1 k1 d_L_law_259 ?_
        refine lawC (wf := wD cb bd) (u0 := τ) (x := (f_D_crash τ (xs (nI (4 * i) + 1).toNatClampNeg))) (T := F_D) (N := 13) XD hPD1 hDD hS1 hAD [.int (xs (nI (4 * i) + 1).toNatClampNeg)] (c_D_crash l D cb bd (AD bd) τ (xs (nI (4 * i) + 1).toNatClampNeg) ) k_L_41 0 3 (mw_atE (by decide) rfl) rfl rfl hl rfl ⟨Nat.le_of_ble_eq_true rfl, Nat.le_of_ble_eq_true rfl⟩ (Nat.le_of_ble_eq_true rfl) ⟨Nat.le_of_ble_eq_true rfl, Nat.le_of_ble_eq_true rfl⟩ d_L_law_260 (fun H2 locs2 hPD2 hDD2 hk2 hS2 => ?_)
        have hPT2 := keepP hPT1 hDT1 hsT hk2
        have hr2 := crash_rel (a := (xs (nI (4 * i) + 1).toNatClampNeg)) hR
        refine lv_icmp_eq (tgt := 459) hx hb d_L_law_263 (by decide) (fun _ => ?_) (fun c9 => absurd hr2.1 c9)
        exact cont _ _ _ _ (hr2.2.le (by omega)) hPT2 hDT1 hPD2 hDD2 hS2
      · refine lv_tableIn (tgt := 268) (off := 236) hx hb d_L_law_32 (by decide) (by decide) (by decide) (by decide) ?_
        refine lv_aload_n hx hb d_L_law_268 rfl (lv_at hl 2 rfl) ?_
        refine lv_aload_n hx hb d_L_law_269 rfl (lv_at hl 3 rfl) ?_
        refine lv_iload_n hx hb d_L_law_270 rfl (lv_at hl 0 rfl) ?_
        refine lv_iconst (v := 1) hx hb d_L_law_271 (by decide) ?_
        refine lv_iadd hx hb d_L_law_272 ?_
        refine va_sld hx hb hX hbl hbA hS k1 d_L_law_273 ?_
        refine lawC (wf := wT ca ad) (u0 := σ) (x := (f_T_recover σ (xs (nI (4 * i) + 1).toNatClampNeg))) (T := F_T) (N := 3) XT hPT hDT hS hAT [.int (xs (nI (4 * i) + 1).toNatClampNeg)] (c_T_recover l D ca ad (AT ad) σ (xs (nI (4 * i) + 1).toNatClampNeg) ) k_L_42 0 0 (mw_atE (by decide) rfl) rfl rfl hl rfl ⟨Nat.le_of_ble_eq_true rfl, Nat.le_of_ble_eq_true rfl⟩ (Nat.le_of_ble_eq_true rfl) ⟨Nat.le_of_ble_eq_true rfl, Nat.le_of_ble_eq_true rfl⟩ d_L_law_274 (fun H1 locs1 hPT1 hDT1 hk1 hS1 => ?_)
        have hPD1 := keepP hPD hDD hsD hk1
        refine lv_aload_n hx hb d_L_law_277 rfl (lv_at hl 1 rfl) ?_
        refine lv_aload_n hx hb d_L_law_278 rfl (lv_at hl 3 rfl) ?_
        refine lv_iload_n hx hb d_L_law_279 rfl (lv_at hl 0 rfl) ?_
        refine lv_iconst (v := 1) hx hb d_L_law_280 (by decide) ?_
        refine lv_iadd hx hb d_L_law_281 ?_
        refine va_sld hx hb hX hbl hbA hS1 k1 d_L_law_282 ?_
        refine lawC (wf := wD cb bd) (u0 := τ) (x := (f_D_recover τ (xs (nI (4 * i) + 1).toNatClampNeg))) (T := F_D) (N := 13) XD hPD1 hDD hS1 hAD [.int (xs (nI (4 * i) + 1).toNatClampNeg)] (c_D_recover l D cb bd (AD bd) τ (xs (nI (4 * i) + 1).toNatClampNeg) ) k_L_45 0 3 (mw_atE (by decide) rfl) rfl rfl hl rfl ⟨Nat.le_of_ble_eq_true rfl, Nat.le_of_ble_eq_true rfl⟩ (Nat.le_of_ble_eq_true rfl) ⟨Nat.le_of_ble_eq_true rfl, Nat.le_of_ble_eq_true rfl⟩ d_L_law_283 (fun H2 locs2 hPD2 hDD2 hk2 hS2 => ?_)
        have hPT2 := keepP hPT1 hDT1 hsT hk2
        have hr2 := recover_rel (a := (xs (nI (4 * i) + 1).toNatClampNeg)) hR
        refine lv_icmp_eq (tgt := 459) hx hb d_L_law_286 (by decide) (fun _ => ?_) (fun c9 => absurd hr2.1 c9)
        exact cont _ _ _ _ (hr2.2.le (by omega)) hPT2 hDT1 hPD2 hDD2 hS2
      · refine lv_tableIn (tgt := 291) (off := 259) hx hb d_L_law_32 (by decide) (by decide) (by decide) (by decide) ?_
        refine lv_aload_n hx hb d_L_law_291 rfl (lv_at hl 2 rfl) ?_
        refine lv_aload_n hx hb d_L_law_292 rfl (lv_at hl 3 rfl) ?_
        refine lv_iload_n hx hb d_L_law_293 rfl (lv_at hl 0 rfl) ?_
        refine lv_iconst (v := 1) hx hb d_L_law_294 (by decide) ?_
        refine lv_iadd hx hb d_L_law_295 ?_
        refine va_sld hx hb hX hbl hbA hS k1 d_L_law_296 ?_
        refine lawC (wf := wT ca ad) (u0 := σ) (x := (f_T_promote σ (xs (nI (4 * i) + 1).toNatClampNeg))) (T := F_T) (N := 3) XT hPT hDT hS hAT [.int (xs (nI (4 * i) + 1).toNatClampNeg)] (c_T_promote l D ca ad (AT ad) σ (xs (nI (4 * i) + 1).toNatClampNeg) ) k_L_46 0 0 (mw_atE (by decide) rfl) rfl rfl hl rfl ⟨Nat.le_of_ble_eq_true rfl, Nat.le_of_ble_eq_true rfl⟩ (Nat.le_of_ble_eq_true rfl) ⟨Nat.le_of_ble_eq_true rfl, Nat.le_of_ble_eq_true rfl⟩ d_L_law_297 (fun H1 locs1 hPT1 hDT1 hk1 hS1 => ?_)
        have hPD1 := keepP hPD hDD hsD hk1
        refine lv_aload_n hx hb d_L_law_300 rfl (lv_at hl 1 rfl) ?_
        refine lv_aload_n hx hb d_L_law_301 rfl (lv_at hl 3 rfl) ?_
        refine lv_iload_n hx hb d_L_law_302 rfl (lv_at hl 0 rfl) ?_
        refine lv_iconst (v := 1) hx hb d_L_law_303 (by decide) ?_
        refine lv_iadd hx hb d_L_law_304 ?_
        refine va_sld hx hb hX hbl hbA hS1 k1 d_L_law_305 ?_
        refine lawC (wf := wD cb bd) (u0 := τ) (x := (f_D_promote τ (xs (nI (4 * i) + 1).toNatClampNeg))) (T := F_D) (N := 13) XD hPD1 hDD hS1 hAD [.int (xs (nI (4 * i) + 1).toNatClampNeg)] (c_D_promote l D cb bd (AD bd) τ (xs (nI (4 * i) + 1).toNatClampNeg) ) k_L_49 0 3 (mw_atE (by decide) rfl) rfl rfl hl rfl ⟨Nat.le_of_ble_eq_true rfl, Nat.le_of_ble_eq_true rfl⟩ (Nat.le_of_ble_eq_true rfl) ⟨Nat.le_of_ble_eq_true rfl, Nat.le_of_ble_eq_true rfl⟩ d_L_law_306 (fun H2 locs2 hPD2 hDD2 hk2 hS2 => ?_)
        have hPT2 := keepP hPT1 hDT1 hsT hk2
        have hr2 := promote_rel (a := (xs (nI (4 * i) + 1).toNatClampNeg)) (by omega) hR
        refine lv_icmp_eq (tgt := 459) hx hb d_L_law_309 (by decide) (fun _ => ?_) (fun c9 => absurd hr2.1 c9)
        exact cont _ _ _ _ hr2.2 hPT2 hDT1 hPD2 hDD2 hS2
      · refine lv_tableIn (tgt := 314) (off := 282) hx hb d_L_law_32 (by decide) (by decide) (by decide) (by decide) ?_
        refine lv_aload_n hx hb d_L_law_314 rfl (lv_at hl 2 rfl) ?_
        refine lv_aload_n hx hb d_L_law_315 rfl (lv_at hl 3 rfl) ?_
        refine lv_iload_n hx hb d_L_law_316 rfl (lv_at hl 0 rfl) ?_
        refine lv_iconst (v := 1) hx hb d_L_law_317 (by decide) ?_
        refine lv_iadd hx hb d_L_law_318 ?_
        refine va_sld hx hb hX hbl hbA hS k1 d_L_law_319 ?_
        refine lawC (wf := wT ca ad) (u0 := σ) (x := (f_T_rejoin σ (xs (nI (4 * i) + 1).toNatClampNeg))) (T := F_T) (N := 3) XT hPT hDT hS hAT [.int (xs (nI (4 * i) + 1).toNatClampNeg)] (c_T_rejoin l D ca ad (AT ad) σ (xs (nI (4 * i) + 1).toNatClampNeg) hR.Bs.1) k_L_50 0 0 (mw_atE (by decide) rfl) rfl rfl hl rfl ⟨Nat.le_of_ble_eq_true rfl, Nat.le_of_ble_eq_true rfl⟩ (Nat.le_of_ble_eq_true rfl) ⟨Nat.le_of_ble_eq_true rfl, Nat.le_of_ble_eq_true rfl⟩ d_L_law_320 (fun H1 locs1 hPT1 hDT1 hk1 hS1 => ?_)
        have hPD1 := keepP hPD hDD hsD hk1
        refine lv_aload_n hx hb d_L_law_323 rfl (lv_at hl 1 rfl) ?_
        refine lv_aload_n hx hb d_L_law_324 rfl (lv_at hl 3 rfl) ?_
        refine lv_iload_n hx hb d_L_law_325 rfl (lv_at hl 0 rfl) ?_
        refine lv_iconst (v := 1) hx hb d_L_law_326 (by decide) ?_
        refine lv_iadd hx hb d_L_law_327 ?_
        refine va_sld hx hb hX hbl hbA hS1 k1 d_L_law_328 ?_
        refine lawC (wf := wD cb bd) (u0 := τ) (x := (f_D_rejoin τ (xs (nI (4 * i) + 1).toNatClampNeg))) (T := F_D) (N := 13) XD hPD1 hDD hS1 hAD [.int (xs (nI (4 * i) + 1).toNatClampNeg)] (c_D_rejoin l D cb bd (AD bd) τ (xs (nI (4 * i) + 1).toNatClampNeg) hR.Ds.1) k_L_53 0 3 (mw_atE (by decide) rfl) rfl rfl hl rfl ⟨Nat.le_of_ble_eq_true rfl, Nat.le_of_ble_eq_true rfl⟩ (Nat.le_of_ble_eq_true rfl) ⟨Nat.le_of_ble_eq_true rfl, Nat.le_of_ble_eq_true rfl⟩ d_L_law_329 (fun H2 locs2 hPD2 hDD2 hk2 hS2 => ?_)
        have hPT2 := keepP hPT1 hDT1 hsT hk2
        have hr2 := rejoin_rel (a := (xs (nI (4 * i) + 1).toNatClampNeg)) hR
        refine lv_icmp_eq (tgt := 459) hx hb d_L_law_332 (by decide) (fun _ => ?_) (fun c9 => absurd hr2.1 c9)
        exact cont _ _ _ _ (hr2.2.le (by omega)) hPT2 hDT1 hPD2 hDD2 hS2
      · refine lv_tableIn (tgt := 337) (off := 305) hx hb d_L_law_32 (by decide) (by decide) (by decide) (by decide) ?_
        refine lv_aload_n hx hb d_L_law_337 rfl (lv_at hl 2 rfl) ?_
        refine lv_aload_n hx hb d_L_law_338 rfl (lv_at hl 3 rfl) ?_
        refine lv_iload_n hx hb d_L_law_339 rfl (lv_at hl 0 rfl) ?_
        refine lv_iconst (v := 1) hx hb d_L_law_340 (by decide) ?_
        refine lv_iadd hx hb d_L_law_341 ?_
        refine va_sld hx hb hX hbl hbA hS k1 d_L_law_342 ?_
        refine lv_aload_n hx hb d_L_law_343 rfl (lv_at hl 3 rfl) ?_
        refine lv_iload_n hx hb d_L_law_344 rfl (lv_at hl 0 rfl) ?_
        refine lv_iconst (v := 2) hx hb d_L_law_345 (by decide) ?_
        refine lv_iadd hx hb d_L_law_346 ?_
        refine va_sld hx hb hX hbl hbA hS k2 d_L_law_347 ?_
        refine lawC (wf := wT ca ad) (u0 := σ) (x := (f_T_told σ (xs (nI (4 * i) + 1).toNatClampNeg) (xs (nI (4 * i) + 2).toNatClampNeg), σ)) (T := F_T) (N := 3) XT hPT hDT hS hAT [.int (xs (nI (4 * i) + 1).toNatClampNeg), .int (xs (nI (4 * i) + 2).toNatClampNeg)] (c_T_told l D ca ad (AT ad) σ (xs (nI (4 * i) + 1).toNatClampNeg) (xs (nI (4 * i) + 2).toNatClampNeg) ) k_L_54 0 0 (mw_atE (by decide) rfl) rfl rfl hl rfl ⟨Nat.le_of_ble_eq_true rfl, Nat.le_of_ble_eq_true rfl⟩ (Nat.le_of_ble_eq_true rfl) ⟨Nat.le_of_ble_eq_true rfl, Nat.le_of_ble_eq_true rfl⟩ d_L_law_348 (fun H1 locs1 hPT1 hDT1 hk1 hS1 => ?_)
        have hPD1 := keepP hPD hDD hsD hk1
        refine lv_aload_n hx hb d_L_law_351 rfl (lv_at hl 1 rfl) ?_
        refine lv_aload_n hx hb d_L_law_352 rfl (lv_at hl 3 rfl) ?_
        refine lv_iload_n hx hb d_L_law_353 rfl (lv_at hl 0 rfl) ?_
        refine lv_iconst (v := 1) hx hb d_L_law_354 (by decide) ?_
        refine lv_iadd hx hb d_L_law_355 ?_
        refine va_sld hx hb hX hbl hbA hS1 k1 d_L_law_356 ?_
        refine lv_aload_n hx hb d_L_law_357 rfl (lv_at hl 3 rfl) ?_
        refine lv_iload_n hx hb d_L_law_358 rfl (lv_at hl 0 rfl) ?_
        refine lv_iconst (v := 2) hx hb d_L_law_359 (by decide) ?_
        refine lv_iadd hx hb d_L_law_360 ?_
        refine va_sld hx hb hX hbl hbA hS1 k2 d_L_law_361 ?_
        refine lawC (wf := wD cb bd) (u0 := τ) (x := (f_D_told τ (xs (nI (4 * i) + 1).toNatClampNeg) (xs (nI (4 * i) + 2).toNatClampNeg), τ)) (T := F_D) (N := 13) XD hPD1 hDD hS1 hAD [.int (xs (nI (4 * i) + 1).toNatClampNeg), .int (xs (nI (4 * i) + 2).toNatClampNeg)] (c_D_told l D cb bd (AD bd) τ (xs (nI (4 * i) + 1).toNatClampNeg) (xs (nI (4 * i) + 2).toNatClampNeg) ) k_L_57 0 3 (mw_atE (by decide) rfl) rfl rfl hl rfl ⟨Nat.le_of_ble_eq_true rfl, Nat.le_of_ble_eq_true rfl⟩ (Nat.le_of_ble_eq_true rfl) ⟨Nat.le_of_ble_eq_true rfl, Nat.le_of_ble_eq_true rfl⟩ d_L_law_362 (fun H2 locs2 hPD2 hDD2 hk2 hS2 => ?_)
        have hPT2 := keepP hPT1 hDT1 hsT hk2
        have hr2 := told_rel (a := (xs (nI (4 * i) + 1).toNatClampNeg)) (b := (xs (nI (4 * i) + 2).toNatClampNeg)) hR
        refine lv_icmp_eq (tgt := 459) hx hb d_L_law_365 (by decide) (fun _ => ?_) (fun c9 => absurd hr2 c9)
        exact cont _ _ _ _ (hR.le (by omega)) hPT2 hDT1 hPD2 hDD2 hS2
      · refine lv_tableIn (tgt := 370) (off := 338) hx hb d_L_law_32 (by decide) (by decide) (by decide) (by decide) ?_
        refine lv_aload_n hx hb d_L_law_370 rfl (lv_at hl 2 rfl) ?_
        refine lv_aload_n hx hb d_L_law_371 rfl (lv_at hl 3 rfl) ?_
        refine lv_iload_n hx hb d_L_law_372 rfl (lv_at hl 0 rfl) ?_
        refine lv_iconst (v := 1) hx hb d_L_law_373 (by decide) ?_
        refine lv_iadd hx hb d_L_law_374 ?_
        refine va_sld hx hb hX hbl hbA hS k1 d_L_law_375 ?_
        refine lv_aload_n hx hb d_L_law_376 rfl (lv_at hl 3 rfl) ?_
        refine lv_iload_n hx hb d_L_law_377 rfl (lv_at hl 0 rfl) ?_
        refine lv_iconst (v := 2) hx hb d_L_law_378 (by decide) ?_
        refine lv_iadd hx hb d_L_law_379 ?_
        refine va_sld hx hb hX hbl hbA hS k2 d_L_law_380 ?_
        refine lv_aload_n hx hb d_L_law_381 rfl (lv_at hl 3 rfl) ?_
        refine lv_iload_n hx hb d_L_law_382 rfl (lv_at hl 0 rfl) ?_
        refine lv_iconst (v := 3) hx hb d_L_law_383 (by decide) ?_
        refine lv_iadd hx hb d_L_law_384 ?_
        refine va_sld hx hb hX hbl hbA hS k3 d_L_law_385 ?_
        refine lawC (wf := wT ca ad) (u0 := σ) (x := (f_T_entry σ (xs (nI (4 * i) + 1).toNatClampNeg) (xs (nI (4 * i) + 2).toNatClampNeg) (xs (nI (4 * i) + 3).toNatClampNeg), σ)) (T := F_T) (N := 3) XT hPT hDT hS hAT [.int (xs (nI (4 * i) + 1).toNatClampNeg), .int (xs (nI (4 * i) + 2).toNatClampNeg), .int (xs (nI (4 * i) + 3).toNatClampNeg)] (c_T_entry l D ca ad (AT ad) σ (xs (nI (4 * i) + 1).toNatClampNeg) (xs (nI (4 * i) + 2).toNatClampNeg) (xs (nI (4 * i) + 3).toNatClampNeg) hR.Bs) k_L_58 0 0 (mw_atE (by decide) rfl) rfl rfl hl rfl ⟨Nat.le_of_ble_eq_true rfl, Nat.le_of_ble_eq_true rfl⟩ (Nat.le_of_ble_eq_true rfl) ⟨Nat.le_of_ble_eq_true rfl, Nat.le_of_ble_eq_true rfl⟩ d_L_law_386 (fun H1 locs1 hPT1 hDT1 hk1 hS1 => ?_)
        have hPD1 := keepP hPD hDD hsD hk1
        refine lv_aload_n hx hb d_L_law_389 rfl (lv_at hl 1 rfl) ?_
        refine lv_aload_n hx hb d_L_law_390 rfl (lv_at hl 3 rfl) ?_
        refine lv_iload_n hx hb d_L_law_391 rfl (lv_at hl 0 rfl) ?_
        refine lv_iconst (v := 1) hx hb d_L_law_392 (by decide) ?_
        refine lv_iadd hx hb d_L_law_393 ?_
        refine va_sld hx hb hX hbl hbA hS1 k1 d_L_law_394 ?_
        refine lv_aload_n hx hb d_L_law_395 rfl (lv_at hl 3 rfl) ?_
        refine lv_iload_n hx hb d_L_law_396 rfl (lv_at hl 0 rfl) ?_
        refine lv_iconst (v := 2) hx hb d_L_law_397 (by decide) ?_
        refine lv_iadd hx hb d_L_law_398 ?_
        refine va_sld hx hb hX hbl hbA hS1 k2 d_L_law_399 ?_
        refine lv_aload_n hx hb d_L_law_400 rfl (lv_at hl 3 rfl) ?_
        refine lv_iload_n hx hb d_L_law_401 rfl (lv_at hl 0 rfl) ?_
        refine lv_iconst (v := 3) hx hb d_L_law_402 (by decide) ?_
        refine lv_iadd hx hb d_L_law_403 ?_
        refine va_sld hx hb hX hbl hbA hS1 k3 d_L_law_404 ?_
        refine lawC (wf := wD cb bd) (u0 := τ) (x := (f_D_entry τ (xs (nI (4 * i) + 1).toNatClampNeg) (xs (nI (4 * i) + 2).toNatClampNeg) (xs (nI (4 * i) + 3).toNatClampNeg), τ)) (T := F_D) (N := 13) XD hPD1 hDD hS1 hAD [.int (xs (nI (4 * i) + 1).toNatClampNeg), .int (xs (nI (4 * i) + 2).toNatClampNeg), .int (xs (nI (4 * i) + 3).toNatClampNeg)] (c_D_entry l D cb bd (AD bd) τ (xs (nI (4 * i) + 1).toNatClampNeg) (xs (nI (4 * i) + 2).toNatClampNeg) (xs (nI (4 * i) + 3).toNatClampNeg) hR.Ds) k_L_61 0 3 (mw_atE (by decide) rfl) rfl rfl hl rfl ⟨Nat.le_of_ble_eq_true rfl, Nat.le_of_ble_eq_true rfl⟩ (Nat.le_of_ble_eq_true rfl) ⟨Nat.le_of_ble_eq_true rfl, Nat.le_of_ble_eq_true rfl⟩ d_L_law_405 (fun H2 locs2 hPD2 hDD2 hk2 hS2 => ?_)
        have hPT2 := keepP hPT1 hDT1 hsT hk2
        have hr2 := entry_rel (a := (xs (nI (4 * i) + 1).toNatClampNeg)) (b := (xs (nI (4 * i) + 2).toNatClampNeg)) (x := (xs (nI (4 * i) + 3).toNatClampNeg)) hR
        refine lv_icmp_eq (tgt := 459) hx hb d_L_law_408 (by decide) (fun _ => ?_) (fun c9 => absurd hr2 c9)
        exact cont _ _ _ _ (hR.le (by omega)) hPT2 hDT1 hPD2 hDD2 hS2
      · refine lv_tableIn (tgt := 413) (off := 381) hx hb d_L_law_32 (by decide) (by decide) (by decide) (by decide) ?_
        refine lv_aload_n hx hb d_L_law_413 rfl (lv_at hl 2 rfl) ?_
        refine lv_aload_n hx hb d_L_law_414 rfl (lv_at hl 3 rfl) ?_
        refine lv_iload_n hx hb d_L_law_415 rfl (lv_at hl 0 rfl) ?_
        refine lv_iconst (v := 1) hx hb d_L_law_416 (by decide) ?_
        refine lv_iadd hx hb d_L_law_417 ?_
        refine va_sld hx hb hX hbl hbA hS k1 d_L_law_418 ?_
        refine lv_aload_n hx hb d_L_law_419 rfl (lv_at hl 3 rfl) ?_
        refine lv_iload_n hx hb d_L_law_420 rfl (lv_at hl 0 rfl) ?_
        refine lv_iconst (v := 2) hx hb d_L_law_421 (by decide) ?_
        refine lv_iadd hx hb d_L_law_422 ?_
        refine va_sld hx hb hX hbl hbA hS k2 d_L_law_423 ?_
        refine lawC (wf := wT ca ad) (u0 := σ) (x := (f_T_message σ (xs (nI (4 * i) + 1).toNatClampNeg) (xs (nI (4 * i) + 2).toNatClampNeg), σ)) (T := F_T) (N := 3) XT hPT hDT hS hAT [.int (xs (nI (4 * i) + 1).toNatClampNeg), .int (xs (nI (4 * i) + 2).toNatClampNeg)] (c_T_message l D ca ad (AT ad) σ (xs (nI (4 * i) + 1).toNatClampNeg) (xs (nI (4 * i) + 2).toNatClampNeg) hR.Bs.1) k_L_62 0 0 (mw_atE (by decide) rfl) rfl rfl hl rfl ⟨Nat.le_of_ble_eq_true rfl, Nat.le_of_ble_eq_true rfl⟩ (Nat.le_of_ble_eq_true rfl) ⟨Nat.le_of_ble_eq_true rfl, Nat.le_of_ble_eq_true rfl⟩ d_L_law_424 (fun H1 locs1 hPT1 hDT1 hk1 hS1 => ?_)
        have hPD1 := keepP hPD hDD hsD hk1
        refine lv_aload_n hx hb d_L_law_427 rfl (lv_at hl 1 rfl) ?_
        refine lv_aload_n hx hb d_L_law_428 rfl (lv_at hl 3 rfl) ?_
        refine lv_iload_n hx hb d_L_law_429 rfl (lv_at hl 0 rfl) ?_
        refine lv_iconst (v := 1) hx hb d_L_law_430 (by decide) ?_
        refine lv_iadd hx hb d_L_law_431 ?_
        refine va_sld hx hb hX hbl hbA hS1 k1 d_L_law_432 ?_
        refine lv_aload_n hx hb d_L_law_433 rfl (lv_at hl 3 rfl) ?_
        refine lv_iload_n hx hb d_L_law_434 rfl (lv_at hl 0 rfl) ?_
        refine lv_iconst (v := 2) hx hb d_L_law_435 (by decide) ?_
        refine lv_iadd hx hb d_L_law_436 ?_
        refine va_sld hx hb hX hbl hbA hS1 k2 d_L_law_437 ?_
        refine lawC (wf := wD cb bd) (u0 := τ) (x := (f_D_message τ (xs (nI (4 * i) + 1).toNatClampNeg) (xs (nI (4 * i) + 2).toNatClampNeg), τ)) (T := F_D) (N := 13) XD hPD1 hDD hS1 hAD [.int (xs (nI (4 * i) + 1).toNatClampNeg), .int (xs (nI (4 * i) + 2).toNatClampNeg)] (c_D_message l D cb bd (AD bd) τ (xs (nI (4 * i) + 1).toNatClampNeg) (xs (nI (4 * i) + 2).toNatClampNeg) hR.Ds.1) k_L_65 0 3 (mw_atE (by decide) rfl) rfl rfl hl rfl ⟨Nat.le_of_ble_eq_true rfl, Nat.le_of_ble_eq_true rfl⟩ (Nat.le_of_ble_eq_true rfl) ⟨Nat.le_of_ble_eq_true rfl, Nat.le_of_ble_eq_true rfl⟩ d_L_law_438 (fun H2 locs2 hPD2 hDD2 hk2 hS2 => ?_)
        have hPT2 := keepP hPT1 hDT1 hsT hk2
        have hr2 := message_rel (a := (xs (nI (4 * i) + 1).toNatClampNeg)) (b := (xs (nI (4 * i) + 2).toNatClampNeg)) hR
        refine lv_icmp_eq (tgt := 459) hx hb d_L_law_441 (by decide) (fun _ => ?_) (fun c9 => absurd hr2 c9)
        exact cont _ _ _ _ (hR.le (by omega)) hPT2 hDT1 hPD2 hDD2 hS2
      · refine lv_tableIn (tgt := 446) (off := 414) hx hb d_L_law_32 (by decide) (by decide) (by decide) (by decide) ?_
        refine lv_aload_n hx hb d_L_law_446 rfl (lv_at hl 2 rfl) ?_
        refine lawC (wf := wT ca ad) (u0 := σ) (x := (f_T_same σ, σ)) (T := F_T) (N := 3) XT hPT hDT hS hAT [] (c_T_same l D ca ad (AT ad) σ hR.Bs) k_L_66 0 0 (mw_atE (by decide) rfl) rfl rfl hl rfl ⟨Nat.le_of_ble_eq_true rfl, Nat.le_of_ble_eq_true rfl⟩ (Nat.le_of_ble_eq_true rfl) ⟨Nat.le_of_ble_eq_true rfl, Nat.le_of_ble_eq_true rfl⟩ d_L_law_447 (fun H1 locs1 hPT1 hDT1 hk1 hS1 => ?_)
        have hPD1 := keepP hPD hDD hsD hk1
        refine lv_aload_n hx hb d_L_law_450 rfl (lv_at hl 1 rfl) ?_
        refine lawC (wf := wD cb bd) (u0 := τ) (x := (f_D_same τ, τ)) (T := F_D) (N := 13) XD hPD1 hDD hS1 hAD [] (c_D_same l D cb bd (AD bd) τ hR.Ds) k_L_69 0 3 (mw_atE (by decide) rfl) rfl rfl hl rfl ⟨Nat.le_of_ble_eq_true rfl, Nat.le_of_ble_eq_true rfl⟩ (Nat.le_of_ble_eq_true rfl) ⟨Nat.le_of_ble_eq_true rfl, Nat.le_of_ble_eq_true rfl⟩ d_L_law_451 (fun H2 locs2 hPD2 hDD2 hk2 hS2 => ?_)
        have hPT2 := keepP hPT1 hDT1 hsT hk2
        have hr2 := same_rel hR
        refine lv_icmp_eq (tgt := 459) hx hb d_L_law_454 (by decide) (fun _ => ?_) (fun c9 => absurd hr2 c9)
        exact cont _ _ _ _ (hR.le (by omega)) hPT2 hDT1 hPD2 hDD2 hS2
      · refine lv_tableOut (tgt := 459) hx hb d_L_law_32 (by decide) (by decide) ?_
        exact cont σ τ H locs (hR.le (by omega)) hPT hDT hPD hDD hS
      · refine lv_tableOut (tgt := 459) hx hb d_L_law_32 (by decide) (by decide) ?_
        exact cont σ τ H locs (hR.le (by omega)) hPT hDT hPD hDD hS
      · refine lv_tableOut (tgt := 459) hx hb d_L_law_32 (by decide) (by decide) ?_
        exact cont σ τ H locs (hR.le (by omega)) hPT hDT hPD hDD hS
end
section
theorem nIx_tb : ∀ k, k < 10 → Cond.fieldLinkNest R_T (nIx k) R_N (F_N k).2.1 (F_N k).2.2.1 R_T ∈ lw_tbl := by
  intro k hk
  match k, hk with
  | 0, _ => exact List.mem_of_getElem? (i := 35) rfl
  | 1, _ => exact List.mem_of_getElem? (i := 38) rfl
  | 2, _ => exact List.mem_of_getElem? (i := 40) rfl
  | 3, _ => exact List.mem_of_getElem? (i := 42) rfl
  | 4, _ => exact List.mem_of_getElem? (i := 44) rfl
  | 5, _ => exact List.mem_of_getElem? (i := 46) rfl
  | 6, _ => exact List.mem_of_getElem? (i := 47) rfl
  | 7, _ => exact List.mem_of_getElem? (i := 50) rfl
  | 8, _ => exact List.mem_of_getElem? (i := 52) rfl
  | 9, _ => exact List.mem_of_getElem? (i := 54) rfl
  | k + 10, h => exact absurd h (by omega)
theorem gIx_tb : ∀ k, k < 9 → Cond.fieldLinkNest R_T (gIx k) R_G (F_G k).2.1 (F_G k).2.2.1 R_T ∈ lw_tbl := by
  intro k hk
  match k, hk with
  | 0, _ => exact List.mem_of_getElem? (i := 84) rfl
  | 1, _ => exact List.mem_of_getElem? (i := 85) rfl
  | 2, _ => exact List.mem_of_getElem? (i := 86) rfl
  | 3, _ => exact List.mem_of_getElem? (i := 87) rfl
  | 4, _ => exact List.mem_of_getElem? (i := 88) rfl
  | 5, _ => exact List.mem_of_getElem? (i := 89) rfl
  | 6, _ => exact List.mem_of_getElem? (i := 90) rfl
  | 7, _ => exact List.mem_of_getElem? (i := 91) rfl
  | 8, _ => exact List.mem_of_getElem? (i := 92) rfl
  | k + 9, h => exact absurd h (by omega)
theorem wT_ad {ca : Nat → ClassId} {ad : Nat → Nat} {σ : St} {k : Nat} {q : Nat × va_E} (h : (wT ca ad σ)[k]? = some q) : k < 28 ∧ q.1 = ad k := by
  have hk : k < 28 := by
    have := (List.getElem?_eq_some_iff.mp h).1
    simpa [wT, mw] using this
  refine ⟨hk, ?_⟩
  rw [wT, mw_at hk] at h
  rw [← Option.some.inj h]
  unfold cT
  split
  · rename_i e; rw [e]
  · split
    · rename_i e; rw [e]
    · split
      · rename_i e; rw [e]
      · split
        · rfl
        · split <;> rfl
theorem wD_ad {ca : Nat → ClassId} {ad : Nat → Nat} {τ : Mt} {k : Nat} {q : Nat × va_E} (h : (wD ca ad τ)[k]? = some q) : k < 13 ∧ q.1 = ad k := by
  have hk : k < 13 := by
    have := (List.getElem?_eq_some_iff.mp h).1
    simpa [wD, mw] using this
  refine ⟨hk, ?_⟩
  rw [wD, mw_at hk] at h
  rw [← Option.some.inj h]
  unfold cD
  split
  · rename_i e; rw [e]
  · rfl
theorem wT_A {ca : Nat → ClassId} {ad : Nat → Nat} {σ : St} {A : Nat → Prop} (h : va_D A (wT ca ad σ)) : va_D (AT ad) (wT ca ad σ) ∧ ∀ q, AT ad q → A q := by
  refine ⟨⟨h.1, fun k q hq => ⟨k, wT_ad hq⟩⟩, fun q hq => ?_⟩
  obtain ⟨j, hj, rfl⟩ := hq
  have e : (wT ca ad σ)[j]? = some (cT ca ad σ j) := mw_at hj
  rw [← (wT_ad e).2]
  exact h.2 j _ e
theorem wD_A {ca : Nat → ClassId} {ad : Nat → Nat} {τ : Mt} {A : Nat → Prop} (h : va_D A (wD ca ad τ)) : va_D (AD ad) (wD ca ad τ) ∧ ∀ q, AD ad q → A q := by
  refine ⟨⟨h.1, fun k q hq => ⟨k, wD_ad hq⟩⟩, fun q hq => ?_⟩
  obtain ⟨j, hj, rfl⟩ := hq
  have e : (wD ca ad τ)[j]? = some (cD ca ad τ j) := mw_at hj
  rw [← (wD_ad e).2]
  exact h.2 j _ e
theorem rel0 : Rel 2 σI τI := by
  refine ⟨fun n hn => ⟨?_, fun i _ => ?_⟩, 0, by decide, rfl, rfl, fun i hi => hi, fun i j _ _ e => e, fun j hj => absurd hj (Nat.not_lt_zero j)⟩
  · rcases (show n = 0 ∨ n = 1 by omega) with rfl | rfl
    · unfold NV
      decide
    · unfold NV
      decide
  · refine ⟨?_, ?_, ?_⟩ <;> simp [σI, σZ, τI, τZ, ar, sn, am, da, up2]
set_option maxHeartbeats 4000000 in
set_option maxRecDepth 100000 in
/-- THE LAW, from its entry -/
theorem whole_start {p : Program} {e : Env} {s : State} {m : MethodId} {below : List Frame} {meth : Method} {c : Code} (l : Launch) {b L : Nat} {xs : Nat → Int32} (hL : L ≤ 2048) (C0 : lw_At p s m meth c b L xs) : W p l e room_1 s m #[Value.ref b] below meth c s.heap [] 0 0 (lw_Z below #[Value.ref b] s) (entryFrame m ([Value.ref b] : List Value).toArray 4) := by
  obtain ⟨hx, hb, hr, hml, hown, hts, hX, hbl, hlocks, hgv⟩ := id C0
  have htB : ∀ w ∈ BASE, w.before #[Value.ref b] s = true := fun w hw => hts w (List.mem_filter.mp hw).1
  have hA : ∀ q : Nat, s.heap.size ≤ q → (fun q : Nat => s.heap.size ≤ q) q := fun _ h => h
  obtain ⟨c0, iS0, hKn0⟩ := u_known (C := R_T) (T := F_T) (N := 3) (n := 3) htB i_T (htB _ (mB 21 rfl rfl))
  obtain ⟨c1, iS1, hKn1⟩ := u_known (C := R_N) (T := F_N) (N := 10) (n := 10) htB i_N (htB _ (mB 30 rfl rfl))
  obtain ⟨c2, iS2, hKn2⟩ := u_known (C := R_G) (T := F_G) (N := 9) (n := 9) htB i_G (htB _ (mB 79 rfl rfl))
  obtain ⟨c3, iS3, hKn3⟩ := u_known (C := R_D) (T := F_D) (N := 13) (n := 13) htB i_D (htB _ (mB 233 rfl rfl))
  obtain ⟨D, hKc⟩ : ∃ D : va_G, ∀ (k : Nat) (q : vw_C), classes[k]? = some q → u_Kn s q.1 q.2.1 q.2.2 (D.1 k) (D.2 k) := by
    refine ⟨(fun k => if k = 0 then c0 else if k = 1 then c1 else if k = 2 then c2 else c3, fun k => if k = 0 then iS0 else if k = 1 then iS1 else if k = 2 then iS2 else iS3), ?_⟩
    intro k q hq
    match k, hq with
    | 0, hq => cases hq; exact hKn0
    | 1, hq => cases hq; exact hKn1
    | 2, hq => cases hq; exact hKn2
    | 3, hq => cases hq; exact hKn3
    | k + 4, hq => simp [classes] at hq
  obtain ⟨cI, kI, pI, i1, i2, i3⟩ := Cond.arrayClass_spec (hts (.arrayClass .int) (List.mem_of_getElem? (i := 76) rfl))
  obtain ⟨cZ, kZ, pZ, z1, z2, z3⟩ := Cond.arrayClass_spec (hts (.arrayClass .boolean) (List.mem_of_getElem? (i := 278) rfl))
  have aoN : (Cond.arrayOver (.object R_N)).before #[Value.ref b] s = true := hts _ (List.mem_of_getElem? (i := 29) rfl)
  have aoG : (Cond.arrayOver (.object R_G)).before #[Value.ref b] s = true := hts _ (List.mem_of_getElem? (i := 78) rfl)
  obtain ⟨pN, cN, kN, n1, n2, n3, n4, n5⟩ := Cond.arrayOver_spec aoN
  obtain ⟨pG, cG, kG, g1, g2, g3, g4, g5⟩ := Cond.arrayOver_spec aoG
  have aI : ArrOfT s cI .int ∧ va_RA s cI .int := ⟨fun n z => ⟨fun k h => (by cases h), kI, i2, pI, i3⟩, i1⟩
  have aZ : ArrOfT s cZ .boolean ∧ va_RA s cZ .boolean := ⟨fun n z => ⟨fun k h => (by cases h), kZ, z2, pZ, z3⟩, z1⟩
  have aN : ArrOfT s cN (.object R_N) ∧ va_RA s cN (.object R_N) := ⟨fun n z => ⟨fun k h => (by cases h), kN, n3, pN, n4⟩, kN, pN, n3, n4, n1, n5⟩
  have aG : ArrOfT s cG (.object R_G) ∧ va_RA s cG (.object R_G) := ⟨fun n z => ⟨fun k h => (by cases h), kG, g3, pG, g4⟩, kG, pG, g3, g4, g1, g5⟩
  have hNst : Nst s := ⟨fun k hk => va_Nw.of rfl (hts _ (nIx_tb k hk)), fun k hk => va_Nw.of rfl (hts _ (gIx_tb k hk))⟩
  have hCt : CtN s := ⟨va_Nw.of rfl (hts _ (List.mem_of_getElem? (i := 31) rfl)), va_Nw.of rfl (hts _ (List.mem_of_getElem? (i := 80) rfl)), va_AO.of aoN, va_AO.of aoG⟩
  obtain ⟨ca, hca⟩ : ∃ ca : Nat → ClassId, ca = fun j => if j = 0 then cI else if j = 1 then cN else cG := ⟨_, rfl⟩
  obtain ⟨cb, hcb⟩ : ∃ cb : Nat → ClassId, cb = fun j => if j = 0 then cI else cZ := ⟨_, rfl⟩
  have KT : Kx D (tysT ca) s := by
    refine ⟨⟨hKc, fun k q hk => ?_⟩, hNst⟩
    match k, hk with
    | 0, hk => cases hk; rw [hca]; exact aI
    | 1, hk => cases hk; rw [hca]; exact aN
    | 2, hk => cases hk; rw [hca]; exact aG
    | k + 3, hk => simp [tysT] at hk
  have KD : Kx D (tysD cb) s := by
    refine ⟨⟨hKc, fun k q hk => ?_⟩, hNst⟩
    match k, hk with
    | 0, hk => cases hk; rw [hcb]; exact aI
    | 1, hk => cases hk; rw [hcb]; exact aZ
    | k + 2, hk => simp [tysD] at hk
  have hS : va_S (fun q : Nat => s.heap.size ≤ q) s.heap s.heap [] := va_S.rf
  have hP : va_P D classes [] s.heap := fun k q h => by simp at h
  have hD : va_D (fun q : Nat => s.heap.size ≤ q) [] := ⟨fun i j p q h => by simp at h, fun k q h => by simp at h⟩
  have hl := lv_entry ([.ref b]) (n := 4) (Nat.le_of_ble_eq_true rfl)
  rw [lg_entry_eq]
  generalize (lg_sl ([.ref b]) ++ List.replicate (4 - (lg_sl ([.ref b])).length) Slot.unset).toArray = ls at hl ⊢
  have hl : lv_has ls 4 [(0, .ref b)] := hl

  refine va_new (ci := 0) (fs := [.null, .null, .int 0]) (C := R_T) (T := F_T) (N := 3) hx hb htB i_T ft_T ft_T_ok hown (htB _ (mB 20 rfl rfl)) (htB _ (mB 21 rfl rfl)) (htB _ (mB 15 rfl rfl)) KT.1 hP hD hS hA rfl (fun j hj => by rcases (show j = 0 ∨ j = 1 ∨ j = 2 by omega) with rfl | rfl | rfl <;> rfl) (Nat.le_of_ble_eq_true rfl) (Nat.le_of_ble_eq_true rfl) d_L_law_0 (fun q0 H hP hD hS => ?_)
  have hP : va_P D classes [(q0, .inr (0, [.null, .null, .int 0]))] H := hP
  have hD : va_D (fun q : Nat => s.heap.size ≤ q) [(q0, .inr (0, [.null, .null, .int 0]))] := hD
  refine W.widen (k := 1) (n := 3) (Nat.le_of_ble_eq_true rfl) (Nat.le_of_ble_eq_true rfl) ?_
  refine lv_dup hx hb d_L_law_3 rfl ?_
  have hFc := va_free (wc := [(q0, .inr (0, [.null, .null, .int 0]))]) hD hS hA [0] rfl
  refine va_callv (va_runI (As := []) (rest := [.ref q0]) ⟨hx, hb, hml, hown, htB⟩ (c_T_init l D ca (va_A [(q0, .inr (0, [.null, .null, .int 0]))] H.size) q0 H.size (fun q h => Or.inr h)) (cwI 0 htB (gCB (mB 24 rfl rfl)) rfl rfl rfl (htB _ (mB 15 rfl rfl)) (htB _ (mB 22 rfl rfl)) (htB _ (mB 23 rfl rfl)) rfl (by decide +kernel) ⟨Nat.le_of_ble_eq_true rfl, Nat.le_of_ble_eq_true rfl⟩) ⟨Pre.blindC, fun U hU hW => ⟨rfl, by rw [hU], ⟨by rw [hU]; exact hP, ⟨va_K.moved hW.alike KT.1, KT.2.warm hW⟩, hD.self⟩, hCt.warm hW⟩⟩ rfl rfl hl.1 rfl (lv_room (Nat.le_of_ble_eq_true rfl)) d_L_law_4 ⟨Nat.le_of_ble_eq_true rfl, Nat.le_of_ble_eq_true rfl⟩) hS (fun q _ h => hFc q h) hFc (fun ad t H1 locs ht hvm hw hB hz1 hk1 hS => ?_)
  obtain ⟨hP1, hD1⟩ := hB
  rw [ht] at hP1
  obtain ⟨hDT, hAT1⟩ := wT_A hD1
  have hAT : ∀ q, AT ad q → (fun q : Nat => s.heap.size ≤ q) q := fun q h => hFc q (hAT1 q h)
  have hw : ad 0 = q0 := hw
  clear hP hD hFc hk1 hz1 hD1 ht hvm
  refine W.widen (k := 28) (n := 579) (Nat.le_of_ble_eq_true rfl) (Nat.le_of_ble_eq_true rfl) ?_
  refine lv_astore_n (lv' := [(1, .ref q0), (0, .ref b)]) hx hb d_L_law_7 rfl hl (by decide) rfl (fun ls hl => ?_)
  have hDA : va_D (fun q : Nat => s.heap.size ≤ q) (wT ca ad σI) := hDT.weaken (fun _ _ _ h => hAT _ h)
  refine va_new (ci := 3) (fs := md0) (C := R_D) (T := F_D) (N := 13) hx hb htB i_D ft_D ft_D_ok hown (htB _ (mB 232 rfl rfl)) (htB _ (mB 233 rfl rfl)) (htB _ (mB 18 rfl rfl)) KT.1 hP1 hDA hS hA rfl (fun j hj => by rcases (show j = 0 ∨ j = 1 ∨ j = 2 ∨ j = 3 ∨ j = 4 ∨ j = 5 ∨ j = 6 ∨ j = 7 ∨ j = 8 ∨ j = 9 ∨ j = 10 ∨ j = 11 ∨ j = 12 by omega) with rfl | rfl | rfl | rfl | rfl | rfl | rfl | rfl | rfl | rfl | rfl | rfl | rfl <;> rfl) (Nat.le_of_ble_eq_true rfl) (Nat.le_of_ble_eq_true rfl) d_L_law_8 (fun q1 H hP hD hS => ?_)
  refine W.widen (k := 29) (n := 592) (Nat.le_of_ble_eq_true rfl) (Nat.le_of_ble_eq_true rfl) ?_
  refine lv_dup hx hb d_L_law_11 rfl ?_
  have hlen : (wT ca ad σI).length = 28 := by simp [wT, mw]
  have h28 : (wT ca ad σI ++ [((q1, .inr (3, md0)) : Nat × va_E)])[28]? = some (q1, .inr (3, md0)) := by
    rw [List.getElem?_append_right (by rw [hlen]; exact Nat.le_refl _), hlen]
    rfl
  have hPc : va_P D classes [((q1, .inr (3, md0)) : Nat × va_E)] H := fun k q hk => by
    have hk0 : k < 1 := (List.getElem?_eq_some_iff.mp hk).1
    have : k = 0 := by omega
    subst this
    cases hk
    exact hP 28 _ h28
  have hDc : va_D (va_A [((q1, .inr (3, md0)) : Nat × va_E)] H.size) [((q1, .inr (3, md0)) : Nat × va_E)] := by
    refine ⟨fun i j p q hi hj _ => ?_, fun k q hk => va_A.in hk⟩
    have h1 : i < 1 := (List.getElem?_eq_some_iff.mp hi).1
    have h2 : j < 1 := (List.getElem?_eq_some_iff.mp hj).1
    omega
  have hFc := va_free (wc := [((q1, .inr (3, md0)) : Nat × va_E)]) hD hS hA [28] (by simp only [List.map_cons, List.map_nil, h28])
  have hTn : ∀ (k : Nat) (q : Nat × va_E), (wT ca ad σI)[k]? = some q → q.1 < H.size ∧ ¬ va_A [((q1, .inr (3, md0)) : Nat × va_E)] H.size q.1 := by
    intro k q hk
    have hk28 := (wT_ad hk).1
    have hk' : (wT ca ad σI ++ [((q1, .inr (3, md0)) : Nat × va_E)])[k]? = some q := by
      rw [List.getElem?_append_left (by rw [hlen]; exact hk28)]
      exact hk
    have hlt := (hP k q hk').lt
    refine ⟨hlt, fun h => ?_⟩
    rcases h with ⟨k2, e2, h⟩ | h
    · have h0 : k2 < 1 := (List.getElem?_eq_some_iff.mp h).1
      have : k2 = 0 := by omega
      subst this
      have hq : q.1 = q1 := (congrArg Prod.fst (Option.some.inj h)).symm
      have := hD.1 k 28 q _ hk' h28 hq
      omega
    · omega
  refine va_callv (va_runI (As := []) (rest := [.ref q1]) ⟨hx, hb, hml, hown, htB⟩ (c_D_init l D cb (va_A [((q1, .inr (3, md0)) : Nat × va_E)] H.size) q1 H.size (fun q h => Or.inr h)) (cwI 0 htB (gCB (mB 236 rfl rfl)) rfl rfl rfl (htB _ (mB 18 rfl rfl)) (htB _ (mB 234 rfl rfl)) (htB _ (mB 235 rfl rfl)) rfl (by decide +kernel) ⟨Nat.le_of_ble_eq_true rfl, Nat.le_of_ble_eq_true rfl⟩) ⟨Pre.blindS, fun U hU hW => ⟨rfl, by rw [hU], by rw [hU]; exact hPc, ⟨va_K.moved hW.alike KD.1, KD.2.warm hW⟩, hDc⟩⟩ rfl rfl hl.1 rfl (lv_room (Nat.le_of_ble_eq_true rfl)) d_L_law_12 ⟨Nat.le_of_ble_eq_true rfl, Nat.le_of_ble_eq_true rfl⟩) hS (fun q _ h => hFc q h) hFc (fun bd t H2 locs ht hvm hw2 hB hz1 hk1 hS => ?_)
  obtain ⟨hP2, hD2⟩ := hB
  rw [ht] at hP2
  obtain ⟨hDD, hAD2⟩ := wD_A hD2
  have hAD : ∀ q, AD bd q → (fun q : Nat => s.heap.size ≤ q) q := fun q h => hFc q (hAD2 q h)
  have hw2 : bd 0 = q1 := hw2
  have hPT : va_P D classes (wT ca ad σI) H2 := fun k q hk => by
    have hk28 := (wT_ad hk).1
    have hk' : (wT ca ad σI ++ [((q1, .inr (3, md0)) : Nat × va_E)])[k]? = some q := by
      rw [List.getElem?_append_left (by rw [hlen]; exact hk28)]
      exact hk
    obtain ⟨t1, t2⟩ := hTn k q hk
    exact (hP k q hk').kept (hk1 q.1 t1 t2)
  have hsT : ∀ q, AT ad q → ¬ AD bd q := by
    intro q h1 h2
    obtain ⟨j, hj, rfl⟩ := h1
    have ej : (wT ca ad σI)[j]? = some (cT ca ad σI j) := mw_at hj
    have := (hTn j _ ej).2
    rw [(wT_ad ej).2] at this
    exact this (hAD2 _ h2)
  refine W.widen (k := 41) (n := 1143) (Nat.le_of_ble_eq_true rfl) (Nat.le_of_ble_eq_true rfl) ?_
  refine lv_astore_n (lv' := [(2, .ref q1), (1, .ref q0), (0, .ref b)]) hx hb d_L_law_15 rfl hl (by decide) rfl (fun ls hl => ?_)
  refine lv_iconst (v := 0) hx hb d_L_law_16 (by decide) ?_
  refine lv_istore_n (lv' := [(3, .int 0), (2, .ref q1), (1, .ref q0), (0, .ref b)]) hx hb d_L_law_17 rfl hl (by decide) rfl (fun ls hl => ?_)
  rw [← hw, ← hw2] at hl
  exact law_loop hL C0 KT KD hsT hAT hAD 513 0 (by decide) (by decide) σI τI rel0 H2 locs ls hPT hDT hP2 hDD hS hl
end
section
set_option maxHeartbeats 4000000 in
theorem lw_walk (l : Launch) (b : Addr) (xs : List Int32) : MetFree l x (headSpec (Jvm.Cond.code x code maxLocals ret :: tables_1) room_1) (lw_P b xs) (fun _ _ _ _ _ => True) lw_Q := by
  refine MetFree.of_bodyS (code := code) (maxLocals := maxLocals) (ret := ret) (by decide) ?_ ?_
  · intro args s m h hn
    obtain ⟨meth, c, h1, h2, h3, h4, h5, h6, -, -⟩ := Cond.code_spec hn (atoms_spec (ws := Jvm.Cond.code x code maxLocals ret :: tables_1) h _ List.mem_cons_self)
    exact ⟨meth, c, h1, h2, h3, h4, h5, h6⟩
  · intro p e s m args below meth c s₁ B hml0 hP _
    obtain ⟨rfl, hx, hbd, hgv⟩ := hP
    obtain ⟨scr, harrAt, hlist, hof, hsmall⟩ := hx
    obtain ⟨hcb, hkn, -, -⟩ := State.arrayAt?_spec harrAt
    have hown : s.vm.findClass R_law = some m.cls := findClass_of_methodNamed B.named
    have hts0 : ∀ c ∈ (Jvm.Cond.code x code maxLocals ret :: tables_1), c.before #[Value.ref b] s = true := atoms_spec (ws := Jvm.Cond.code x code maxLocals ret :: tables_1) B.pre
    have hts : ∀ w ∈ lw_tbl, w.before #[Value.ref b] s = true := k2_hts_sels lw_privs (fun w hw => hts0 w (List.mem_cons_of_mem _ hw)) lw_privs_ok
    have hml : c.maxLocals = 4 := B.maxLocals_eq (hts0 _ List.mem_cons_self)
    have X₀ : Stand p l e room_1 s m #[Value.ref b] below meth c s₁ [] 0 0 := Stand.of_body B
    have hh0 : s₁.heap = s.heap := by rw [B.state]; rfl
    have hsz : scr.slots.size = xs.length := by rw [← Array.length_toList, hlist, List.length_map]
    have hval : ∀ j : Nat, j < xs.length → scr.slots[j]? = some (.int (xs.getD j 0)) := fun j hj => by
      rw [← Array.getElem?_toList, hlist]
      simp [hj]
    have hbl : b < s.heap.size := (Array.getElem?_eq_some_iff.mp hcb).1
    have hX : va_X b xs.length (fun j => xs.getD j 0) s s.heap := ⟨scr, hcb, hof, hkn, hsz, hval⟩
    have K : W p l e room_1 s m #[Value.ref b] below meth c s₁.heap [] 0 0 (lw_Z below #[Value.ref b] s) (entryFrame m ([Value.ref b] : List Value).toArray 4) := by
      rw [hh0]
      exact whole_start l hbd ⟨B.exec, B.bytes, B.returns, hml, hown, hts, hX, hbl, B.notSynchronized, hgv⟩
    obtain ⟨t, a1, o, b1, b2, b3⟩ := K s₁ rfl X₀
    exact ⟨t, o, a1, b1, b2, b3⟩
theorem lw_pre_spec {args : Array Value} {s : State} (h : (Jvm.Cond.and given_1 narrow_1).before args s = true) (hr : rest_1_c.before args s = true) : ∃ (b : Addr) (xs : List Int32), lw_P b xs args s := by
  have hs := flat_of_before _ h
  have hq := flat_of_before _ hr
  have hc : (Cond.count 1).before args s = true := hs _ (by decide +kernel)
  have harr : (Cond.arrayOf (.arg 0) .int).before args s = true := hs _ (by decide +kernel)
  have hle : (Cond.le (.length (.arg 0)) (.int 2048)).before args s = true := hs _ (by decide +kernel)
  have hlen : (Cond.isInt (.length (.arg 0))).before args s = true := hq _ (by decide +kernel)
  have hall : (Cond.all (.arg 0) (.isInt (.elem (.arg 0) (.index 0)))).before args s = true := hq _ (by decide +kernel)
  obtain ⟨b, xs, hb, hx⟩ := State.ints_of_pre rfl harr hlen hall
  have hsm : xs.length < 2 ^ 31 := hx.choose_spec.2.2.2
  have hev : (Term.length (.arg 0)).eval args s none [] s = some (.int xs.length.toInt32) := hx.length_eval hb
  have hv := Cond.le_ints hev (show (Term.int 2048).eval args s none [] s = some (.int 2048) from rfl)
  have hd : xs.length.toInt32 ≤ 2048 := by
    simpa [Cond.before, Cond.holds, hv] using hle
  have hN : xs.length ≤ 2048 := (Int32.ofNat_le_ofNat hsm (by decide)).mp (show Int32.ofNat xs.length ≤ Int32.ofNat 2048 from hd)
  exact ⟨b, xs, Cond.one_arg hc (show args[0]? = some (.ref b) from hb), hx, hN, h⟩
theorem lw_comes (l : Launch) : Comes l x (Jvm.Cond.code x code maxLocals ret :: tables_1) room_1 (fun tb e args s => Calls_1 tb e args s ∧ rest_1 tb e args s ∧ Pre_1 tb e args s)
    (fun _ _ args s o t => lw_Q args s o t) := by
  intro p e ha hc hk s m args below hf hfit hheap happ hpre
  obtain ⟨b, xs, hP⟩ := lw_pre_spec hpre.2.2 hpre.2.1
  obtain ⟨k, o, h1, h2, h3, hQ⟩ := lw_walk l b xs p e ha hc hk s m args below hf ((Spec.applies_iff_loose hf).mp happ).1 hP trivial
  exact ⟨k, o, h1, h2, h3, hQ⟩
theorem lw_frame {s t : State} {o : Outcome} {args : Array Value} (h : Framed s o t [] 600000 7302250) :
    Framed s o t (fieldLocs frame_1_writes args s ++ arrayLocs frame_1_arrays args s ++ staticLocs frame_1_statics s) 600000 7302250 := h
theorem lw_limb (L : Cond) (hL : ∀ (args : Array Value) (s t : State), L.after args s (.returned (some (.int 1))) t = true) :
    ArmFor flags0 classFile x code maxLocals ret World_1 tables_1 room_1 Calls_1 rest_1 Pre_1
      (fun tb e a s o t => postC L tb e a s o t ∧ Framed s o t (fieldLocs frame_1_writes a s ++ arrayLocs frame_1_arrays a s ++ staticLocs frame_1_statics s) 600000 7302250) := by
  intro l _ _ _ p e ha hc hk s m args below hf hfit hheap happ hpre
  obtain ⟨k, o, h1, h2, h3, rfl, hF⟩ := lw_comes l p e ha hc hk s m args below hf hfit hheap happ hpre
  exact ⟨k, _, h1, h2, h3, hL args s _, lw_frame hF⟩
theorem i_vc : Claimed_1_1 ∧ Claimed_1_2 := ⟨lw_limb limb_1_1 (fun args s t => by simp [limb_1_1, Cond.after, Cond.holds, Cond.value]), lw_limb limb_1_2 (fun args s t => Cond.after_iff.mpr (by
  first | (rw [show limb_1_2 = Cond.eq .result (.int 1) from rfl, Cond.eq_ints (x := 1) (y := 1) rfl rfl]; simp; done) | (simp [limb_1_2, Cond.value, Term.eval]; done)))⟩
end
