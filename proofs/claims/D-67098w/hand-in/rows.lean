section
-- ===== PART A: goes FIRST, ahead of the names: the tables' words, and 'selects' of the private methods out of them =====
/-- a private method of a class that the tables say can be made, by its rows of tables_1 -/
def lw_okq (q : MethodName × Nat) : Prop := (q.1.cls ≠ "java/lang/invoke/MethodHandle" ∧ q.1.cls ≠ "java/lang/invoke/VarHandle") ∧ Cond.instantiable q.1.cls q.2 ∈ tables_1 ∧ Cond.privateMethod q.1 ∈ tables_1 ∧ Cond.instanceMethod q.1 ∈ tables_1
theorem lw_p0 : lw_okq (⟨"RecentMap$Tree", "lift", "(I)V"⟩, 4) := ⟨⟨by decide +kernel, by decide +kernel⟩, List.mem_of_getElem? (i := 13) (by decide +kernel), List.mem_of_getElem? (i := 70) (by decide +kernel), List.mem_of_getElem? (i := 71) (by decide +kernel)⟩
theorem lw_p1 : lw_okq (⟨"RecentMap", "enter", "(IIZ)I"⟩, 9) := ⟨⟨by decide +kernel, by decide +kernel⟩, List.mem_of_getElem? (i := 5) (by decide +kernel), List.mem_of_getElem? (i := 74) (by decide +kernel), List.mem_of_getElem? (i := 75) (by decide +kernel)⟩
theorem lw_p2 : lw_okq (⟨"RecentMap", "place", "()I"⟩, 9) := ⟨⟨by decide +kernel, by decide +kernel⟩, List.mem_of_getElem? (i := 5) (by decide +kernel), List.mem_of_getElem? (i := 78) (by decide +kernel), List.mem_of_getElem? (i := 79) (by decide +kernel)⟩
theorem lw_p3 : lw_okq (⟨"RecentMap", "fasten", "(IZ)V"⟩, 9) := ⟨⟨by decide +kernel, by decide +kernel⟩, List.mem_of_getElem? (i := 5) (by decide +kernel), List.mem_of_getElem? (i := 86) (by decide +kernel), List.mem_of_getElem? (i := 87) (by decide +kernel)⟩
theorem lw_p4 : lw_okq (⟨"RecentMap", "change", "(II)I"⟩, 9) := ⟨⟨by decide +kernel, by decide +kernel⟩, List.mem_of_getElem? (i := 5) (by decide +kernel), List.mem_of_getElem? (i := 90) (by decide +kernel), List.mem_of_getElem? (i := 91) (by decide +kernel)⟩
theorem lw_p5 : lw_okq (⟨"RecentMap", "puts", "(IIZ)I"⟩, 9) := ⟨⟨by decide +kernel, by decide +kernel⟩, List.mem_of_getElem? (i := 5) (by decide +kernel), List.mem_of_getElem? (i := 98) (by decide +kernel), List.mem_of_getElem? (i := 99) (by decide +kernel)⟩
theorem lw_p6 : lw_okq (⟨"RecentMap", "loose", "(I)V"⟩, 9) := ⟨⟨by decide +kernel, by decide +kernel⟩, List.mem_of_getElem? (i := 5) (by decide +kernel), List.mem_of_getElem? (i := 102) (by decide +kernel), List.mem_of_getElem? (i := 103) (by decide +kernel)⟩
theorem lw_p7 : lw_okq (⟨"RecentMap", "touch", "(IZ)I"⟩, 9) := ⟨⟨by decide +kernel, by decide +kernel⟩, List.mem_of_getElem? (i := 5) (by decide +kernel), List.mem_of_getElem? (i := 114) (by decide +kernel), List.mem_of_getElem? (i := 115) (by decide +kernel)⟩
theorem lw_p8 : lw_okq (⟨"RecentMapModel", "place", "(I)I"⟩, 3) := ⟨⟨by decide +kernel, by decide +kernel⟩, List.mem_of_getElem? (i := 163) (by decide +kernel), List.mem_of_getElem? (i := 183) (by decide +kernel), List.mem_of_getElem? (i := 184) (by decide +kernel)⟩
theorem lw_p9 : lw_okq (⟨"RecentMapModel", "lay", "(III)V"⟩, 3) := ⟨⟨by decide +kernel, by decide +kernel⟩, List.mem_of_getElem? (i := 163) (by decide +kernel), List.mem_of_getElem? (i := 187) (by decide +kernel), List.mem_of_getElem? (i := 188) (by decide +kernel)⟩
theorem lw_p10 : lw_okq (⟨"RecentMapModel", "move", "(IIZ)I"⟩, 3) := ⟨⟨by decide +kernel, by decide +kernel⟩, List.mem_of_getElem? (i := 163) (by decide +kernel), List.mem_of_getElem? (i := 195) (by decide +kernel), List.mem_of_getElem? (i := 196) (by decide +kernel)⟩
theorem lw_p11 : lw_okq (⟨"RecentMapModel", "cut", "(I)I"⟩, 3) := ⟨⟨by decide +kernel, by decide +kernel⟩, List.mem_of_getElem? (i := 163) (by decide +kernel), List.mem_of_getElem? (i := 199) (by decide +kernel), List.mem_of_getElem? (i := 200) (by decide +kernel)⟩
theorem lw_p12 : lw_okq (⟨"RecentMapModel", "touch", "(IZ)I"⟩, 3) := ⟨⟨by decide +kernel, by decide +kernel⟩, List.mem_of_getElem? (i := 163) (by decide +kernel), List.mem_of_getElem? (i := 211) (by decide +kernel), List.mem_of_getElem? (i := 212) (by decide +kernel)⟩
def lw_privs_1 : List (MethodName × Nat) := [(⟨"RecentMap$Tree", "lift", "(I)V"⟩, 4), (⟨"RecentMap", "enter", "(IIZ)I"⟩, 9), (⟨"RecentMap", "place", "()I"⟩, 9), (⟨"RecentMap", "fasten", "(IZ)V"⟩, 9), (⟨"RecentMap", "change", "(II)I"⟩, 9), (⟨"RecentMap", "puts", "(IIZ)I"⟩, 9), (⟨"RecentMap", "loose", "(I)V"⟩, 9), (⟨"RecentMap", "touch", "(IZ)I"⟩, 9), (⟨"RecentMapModel", "place", "(I)I"⟩, 3), (⟨"RecentMapModel", "lay", "(III)V"⟩, 3), (⟨"RecentMapModel", "move", "(IIZ)I"⟩, 3), (⟨"RecentMapModel", "cut", "(I)I"⟩, 3), (⟨"RecentMapModel", "touch", "(IZ)I"⟩, 3)]
theorem lw_r1 : ∀ q ∈ lw_privs_1, lw_okq q := List.forall_mem_cons.mpr ⟨lw_p0, List.forall_mem_cons.mpr ⟨lw_p1, List.forall_mem_cons.mpr ⟨lw_p2, List.forall_mem_cons.mpr ⟨lw_p3, List.forall_mem_cons.mpr ⟨lw_p4, List.forall_mem_cons.mpr ⟨lw_p5, List.forall_mem_cons.mpr ⟨lw_p6, List.forall_mem_cons.mpr ⟨lw_p7, List.forall_mem_cons.mpr ⟨lw_p8, List.forall_mem_cons.mpr ⟨lw_p9, List.forall_mem_cons.mpr ⟨lw_p10, List.forall_mem_cons.mpr ⟨lw_p11, List.forall_mem_cons.mpr ⟨lw_p12, fun _ h => absurd h List.not_mem_nil⟩⟩⟩⟩⟩⟩⟩⟩⟩⟩⟩⟩⟩
def lw_privs : List (MethodName × Nat) := lw_privs_1
def lw_tbl : List Cond := k2_sels lw_privs ++ tables_1
theorem lw_privs_ok : ∀ q ∈ lw_privs, lw_okq q := lw_r1
end
section
/-! NAMES (printed by gen/base.py): classes, fields, methods, words -/
def R_T : String := "RecentMap$Tree"
def F_T : u_T := fun k => match k with
  | 0 => ("RecentMap$Tree", "key", "[I", true)
  | 1 => ("RecentMap$Tree", "small", "[I", true)
  | 2 => ("RecentMap$Tree", "great", "[I", true)
  | _ => ("RecentMap$Tree", "root", "I", false)
def ty_T : Nat → FieldType := fun k => match k with
  | 0 => (.array .int)
  | 1 => (.array .int)
  | 2 => (.array .int)
  | _ => .int
def R_X : String := "RecentMap"
def F_X : u_T := fun k => match k with
  | 0 => ("RecentMap", "tree", "LRecentMap$Tree;", true)
  | 1 => ("RecentMap", "value", "[I", true)
  | 2 => ("RecentMap", "before", "[I", true)
  | 3 => ("RecentMap", "behind", "[I", true)
  | 4 => ("RecentMap", "front", "I", false)
  | 5 => ("RecentMap", "back", "I", false)
  | 6 => ("RecentMap", "size", "I", false)
  | 7 => ("RecentMap", "used", "I", false)
  | _ => ("RecentMap", "free", "I", false)
def ty_X : Nat → FieldType := fun k => match k with
  | 0 => (.object "RecentMap$Tree")
  | 1 => (.array .int)
  | 2 => (.array .int)
  | 3 => (.array .int)
  | 4 => .int
  | 5 => .int
  | 6 => .int
  | 7 => .int
  | _ => .int
def R_M : String := "RecentMapModel"
def F_M : u_T := fun k => match k with
  | 0 => ("RecentMapModel", "keys", "[I", true)
  | 1 => ("RecentMapModel", "vals", "[I", true)
  | _ => ("RecentMapModel", "size", "I", false)
def ty_M : Nat → FieldType := fun k => match k with
  | 0 => (.array .int)
  | 1 => (.array .int)
  | _ => .int
abbrev b_X_init : ByteArray := prog_1_method_1_code
def y_X_init : MethodName := ⟨"RecentMap", "<init>", "()V"⟩
abbrev b_X_place : ByteArray := prog_1_method_2_code
def y_X_place : MethodName := ⟨"RecentMap", "place", "()I"⟩
abbrev b_X_loose : ByteArray := prog_1_method_3_code
def y_X_loose : MethodName := ⟨"RecentMap", "loose", "(I)V"⟩
abbrev b_X_fasten : ByteArray := prog_1_method_4_code
def y_X_fasten : MethodName := ⟨"RecentMap", "fasten", "(IZ)V"⟩
abbrev b_X_enter : ByteArray := prog_1_method_5_code
def y_X_enter : MethodName := ⟨"RecentMap", "enter", "(IIZ)I"⟩
abbrev b_X_change : ByteArray := prog_1_method_6_code
def y_X_change : MethodName := ⟨"RecentMap", "change", "(II)I"⟩
abbrev b_X_put : ByteArray := prog_1_method_7_code
def y_X_put : MethodName := ⟨"RecentMap", "put", "(II)I"⟩
abbrev b_X_puts : ByteArray := prog_1_method_8_code
def y_X_puts : MethodName := ⟨"RecentMap", "puts", "(IIZ)I"⟩
abbrev b_X_putFirst : ByteArray := prog_1_method_9_code
def y_X_putFirst : MethodName := ⟨"RecentMap", "putFirst", "(II)I"⟩
abbrev b_X_putLast : ByteArray := prog_1_method_10_code
def y_X_putLast : MethodName := ⟨"RecentMap", "putLast", "(II)I"⟩
abbrev b_X_touch : ByteArray := prog_1_method_11_code
def y_X_touch : MethodName := ⟨"RecentMap", "touch", "(IZ)I"⟩
abbrev b_X_touchFirst : ByteArray := prog_1_method_12_code
def y_X_touchFirst : MethodName := ⟨"RecentMap", "touchFirst", "(I)I"⟩
abbrev b_X_touchLast : ByteArray := prog_1_method_13_code
def y_X_touchLast : MethodName := ⟨"RecentMap", "touchLast", "(I)I"⟩
abbrev b_X_get : ByteArray := prog_1_method_14_code
def y_X_get : MethodName := ⟨"RecentMap", "get", "(I)I"⟩
abbrev b_X_remove : ByteArray := prog_1_method_15_code
def y_X_remove : MethodName := ⟨"RecentMap", "remove", "(I)I"⟩
abbrev b_X_dropFirst : ByteArray := prog_1_method_16_code
def y_X_dropFirst : MethodName := ⟨"RecentMap", "dropFirst", "()I"⟩
abbrev b_X_dropLast : ByteArray := prog_1_method_17_code
def y_X_dropLast : MethodName := ⟨"RecentMap", "dropLast", "()I"⟩
abbrev b_X_first : ByteArray := prog_1_method_18_code
def y_X_first : MethodName := ⟨"RecentMap", "first", "()I"⟩
abbrev b_X_last : ByteArray := prog_1_method_19_code
def y_X_last : MethodName := ⟨"RecentMap", "last", "()I"⟩
abbrev b_X_size : ByteArray := prog_1_method_20_code
def y_X_size : MethodName := ⟨"RecentMap", "size", "()I"⟩
abbrev b_X_clear : ByteArray := prog_1_method_21_code
def y_X_clear : MethodName := ⟨"RecentMap", "clear", "()V"⟩
abbrev b_M_init : ByteArray := prog_4_method_1_code
def y_M_init : MethodName := ⟨"RecentMapModel", "<init>", "()V"⟩
abbrev b_M_place : ByteArray := prog_4_method_2_code
def y_M_place : MethodName := ⟨"RecentMapModel", "place", "(I)I"⟩
abbrev b_M_cut : ByteArray := prog_4_method_3_code
def y_M_cut : MethodName := ⟨"RecentMapModel", "cut", "(I)I"⟩
abbrev b_M_lay : ByteArray := prog_4_method_4_code
def y_M_lay : MethodName := ⟨"RecentMapModel", "lay", "(III)V"⟩
abbrev b_M_put : ByteArray := prog_4_method_5_code
def y_M_put : MethodName := ⟨"RecentMapModel", "put", "(II)I"⟩
abbrev b_M_move : ByteArray := prog_4_method_6_code
def y_M_move : MethodName := ⟨"RecentMapModel", "move", "(IIZ)I"⟩
abbrev b_M_putFirst : ByteArray := prog_4_method_7_code
def y_M_putFirst : MethodName := ⟨"RecentMapModel", "putFirst", "(II)I"⟩
abbrev b_M_putLast : ByteArray := prog_4_method_8_code
def y_M_putLast : MethodName := ⟨"RecentMapModel", "putLast", "(II)I"⟩
abbrev b_M_touch : ByteArray := prog_4_method_9_code
def y_M_touch : MethodName := ⟨"RecentMapModel", "touch", "(IZ)I"⟩
abbrev b_M_touchFirst : ByteArray := prog_4_method_10_code
def y_M_touchFirst : MethodName := ⟨"RecentMapModel", "touchFirst", "(I)I"⟩
abbrev b_M_touchLast : ByteArray := prog_4_method_11_code
def y_M_touchLast : MethodName := ⟨"RecentMapModel", "touchLast", "(I)I"⟩
abbrev b_M_get : ByteArray := prog_4_method_12_code
def y_M_get : MethodName := ⟨"RecentMapModel", "get", "(I)I"⟩
abbrev b_M_remove : ByteArray := prog_4_method_13_code
def y_M_remove : MethodName := ⟨"RecentMapModel", "remove", "(I)I"⟩
abbrev b_M_dropFirst : ByteArray := prog_4_method_14_code
def y_M_dropFirst : MethodName := ⟨"RecentMapModel", "dropFirst", "()I"⟩
abbrev b_M_dropLast : ByteArray := prog_4_method_15_code
def y_M_dropLast : MethodName := ⟨"RecentMapModel", "dropLast", "()I"⟩
abbrev b_M_first : ByteArray := prog_4_method_16_code
def y_M_first : MethodName := ⟨"RecentMapModel", "first", "()I"⟩
abbrev b_M_last : ByteArray := prog_4_method_17_code
def y_M_last : MethodName := ⟨"RecentMapModel", "last", "()I"⟩
abbrev b_M_size : ByteArray := prog_4_method_18_code
def y_M_size : MethodName := ⟨"RecentMapModel", "size", "()I"⟩
abbrev b_M_clear : ByteArray := prog_4_method_19_code
def y_M_clear : MethodName := ⟨"RecentMapModel", "clear", "()V"⟩
abbrev b_T_init : ByteArray := prog_2_method_1_code
def y_T_init : MethodName := ⟨"RecentMap$Tree", "<init>", "()V"⟩
abbrev b_T_lift : ByteArray := prog_2_method_2_code
def y_T_lift : MethodName := ⟨"RecentMap$Tree", "lift", "(I)V"⟩
abbrev b_T_find : ByteArray := prog_2_method_3_code
def y_T_find : MethodName := ⟨"RecentMap$Tree", "find", "(I)I"⟩
abbrev b_T_add : ByteArray := prog_2_method_4_code
def y_T_add : MethodName := ⟨"RecentMap$Tree", "add", "(II)V"⟩
abbrev b_T_cut : ByteArray := prog_2_method_5_code
def y_T_cut : MethodName := ⟨"RecentMap$Tree", "cut", "()V"⟩
abbrev b_T_clear : ByteArray := prog_2_method_6_code
def y_T_clear : MethodName := ⟨"RecentMap$Tree", "clear", "()V"⟩
/-- the words that all methods share: each of them is in the tables -/
def WW_0 : List Cond := [.selects "RecentMap$Tree" y_T_lift y_T_lift,
  .selects "RecentMap" y_X_enter y_X_enter,
  .selects "RecentMap" y_X_place y_X_place,
  .selects "RecentMap" y_X_fasten y_X_fasten,
  .selects "RecentMap" y_X_change y_X_change,
  .selects "RecentMap" y_X_puts y_X_puts,
  .selects "RecentMap" y_X_loose y_X_loose,
  .selects "RecentMap" y_X_touch y_X_touch,
  .selects "RecentMapModel" y_M_place y_M_place,
  .selects "RecentMapModel" y_M_lay y_M_lay,
  .selects "RecentMapModel" y_M_move y_M_move,
  .selects "RecentMapModel" y_M_cut y_M_cut,
  .selects "RecentMapModel" y_M_touch y_M_touch,
  .initialized "RecentMap",
  .initialized "RecentMap$Tree",
  .initialized "RecentMapModel",
  .instantiable "RecentMap" 9,
  .instanceMethod y_X_init,
  .code y_X_init prog_1_method_1_code 1 none,
  .methodLink "RecentMap" 1 objectInit,
  .instanceMethod objectInit,
  .code objectInit object_method_1_code 1 none,
  .classLink "RecentMap" 7 "RecentMap$Tree",
  .instantiable "RecentMap$Tree" 4,
  .instanceMethod y_T_init,
  .code y_T_init prog_2_method_1_code 1 none,
  .methodLink "RecentMap$Tree" 3 objectInit,
  .fieldLink "RecentMap$Tree" 9 "RecentMap$Tree" "key" "[I",
  .fieldLink "RecentMap" 80 "RecentMap$Tree" "key" "[I",
  .fieldLink "RecentMap$Tree" 15 "RecentMap$Tree" "small" "[I"]
def WW_1 : List Cond := [.fieldLink "RecentMap$Tree" 18 "RecentMap$Tree" "great" "[I",
  .fieldLink "RecentMap$Tree" 21 "RecentMap$Tree" "root" "I",
  .laysFinal "RecentMap$Tree" "RecentMap$Tree" "key" "[I",
  .laysFinal "RecentMap$Tree" "RecentMap$Tree" "small" "[I",
  .laysFinal "RecentMap$Tree" "RecentMap$Tree" "great" "[I",
  .lays "RecentMap$Tree" "RecentMap$Tree" "root" "I",
  .arrayClass .int,
  .fieldLink "RecentMap" 10 "RecentMap" "tree" "LRecentMap$Tree;",
  .fieldLink "RecentMap" 16 "RecentMap" "value" "[I",
  .fieldLink "RecentMap" 20 "RecentMap" "before" "[I",
  .fieldLink "RecentMap" 23 "RecentMap" "behind" "[I",
  .fieldLink "RecentMap" 33 "RecentMap" "front" "I",
  .fieldLink "RecentMap" 36 "RecentMap" "back" "I",
  .fieldLink "RecentMap" 51 "RecentMap" "size" "I",
  .fieldLink "RecentMap" 30 "RecentMap" "used" "I",
  .fieldLink "RecentMap" 26 "RecentMap" "free" "I",
  .laysFinal "RecentMap" "RecentMap" "tree" "LRecentMap$Tree;",
  .laysFinal "RecentMap" "RecentMap" "value" "[I",
  .laysFinal "RecentMap" "RecentMap" "before" "[I",
  .laysFinal "RecentMap" "RecentMap" "behind" "[I",
  .lays "RecentMap" "RecentMap" "front" "I",
  .lays "RecentMap" "RecentMap" "back" "I",
  .lays "RecentMap" "RecentMap" "size" "I",
  .lays "RecentMap" "RecentMap" "used" "I",
  .lays "RecentMap" "RecentMap" "free" "I",
  .instanceMethod y_X_put,
  .selects "RecentMap" y_X_put y_X_put,
  .code y_X_put prog_1_method_7_code 4 (some .int),
  .methodLink "RecentMap" 54 y_T_find,
  .instanceMethod y_T_find]
def WW_2 : List Cond := [.selects "RecentMap$Tree" y_T_find y_T_find,
  .code y_T_find prog_2_method_3_code 2 (some .int),
  .methodLink "RecentMap$Tree" 25 y_T_lift,
  .instanceMethod y_T_lift,
  .code y_T_lift prog_2_method_2_code 10 none,
  .methodLink "RecentMap" 58 y_X_enter,
  .instanceMethod y_X_enter,
  .code y_X_enter prog_1_method_5_code 5 (some .int),
  .methodLink "RecentMap" 39 y_X_place,
  .instanceMethod y_X_place,
  .code y_X_place prog_1_method_2_code 2 (some .int),
  .methodLink "RecentMap" 43 y_T_add,
  .instanceMethod y_T_add,
  .selects "RecentMap$Tree" y_T_add y_T_add,
  .code y_T_add prog_2_method_4_code 3 none,
  .methodLink "RecentMap" 47 y_X_fasten,
  .instanceMethod y_X_fasten,
  .code y_X_fasten prog_1_method_4_code 3 none,
  .methodLink "RecentMap" 62 y_X_change,
  .instanceMethod y_X_change,
  .code y_X_change prog_1_method_6_code 4 (some .int),
  .instanceMethod y_X_putFirst,
  .selects "RecentMap" y_X_putFirst y_X_putFirst,
  .code y_X_putFirst prog_1_method_9_code 3 (some .int),
  .methodLink "RecentMap" 70 y_X_puts,
  .instanceMethod y_X_puts,
  .code y_X_puts prog_1_method_8_code 5 (some .int),
  .methodLink "RecentMap" 66 y_X_loose,
  .instanceMethod y_X_loose,
  .code y_X_loose prog_1_method_3_code 4 none]
def WW_3 : List Cond := [.instanceMethod y_X_putLast,
  .selects "RecentMap" y_X_putLast y_X_putLast,
  .code y_X_putLast prog_1_method_10_code 3 (some .int),
  .instanceMethod y_X_touchFirst,
  .selects "RecentMap" y_X_touchFirst y_X_touchFirst,
  .code y_X_touchFirst prog_1_method_12_code 2 (some .int),
  .methodLink "RecentMap" 73 y_X_touch,
  .instanceMethod y_X_touch,
  .code y_X_touch prog_1_method_11_code 4 (some .int),
  .instanceMethod y_X_touchLast,
  .selects "RecentMap" y_X_touchLast y_X_touchLast,
  .code y_X_touchLast prog_1_method_13_code 2 (some .int),
  .instanceMethod y_X_get,
  .selects "RecentMap" y_X_get y_X_get,
  .code y_X_get prog_1_method_14_code 3 (some .int),
  .instanceMethod y_X_remove,
  .selects "RecentMap" y_X_remove y_X_remove,
  .code y_X_remove prog_1_method_15_code 3 (some .int),
  .methodLink "RecentMap" 77 y_T_cut,
  .instanceMethod y_T_cut,
  .selects "RecentMap$Tree" y_T_cut y_T_cut,
  .code y_T_cut prog_2_method_5_code 3 none,
  .instanceMethod y_X_dropFirst,
  .selects "RecentMap" y_X_dropFirst y_X_dropFirst,
  .code y_X_dropFirst prog_1_method_16_code 1 (some .int),
  .methodLink "RecentMap" 83 y_X_remove,
  .instanceMethod y_X_dropLast,
  .selects "RecentMap" y_X_dropLast y_X_dropLast,
  .code y_X_dropLast prog_1_method_17_code 1 (some .int),
  .instanceMethod y_X_first]
def WW_4 : List Cond := [.selects "RecentMap" y_X_first y_X_first,
  .code y_X_first prog_1_method_18_code 1 (some .int),
  .instanceMethod y_X_last,
  .selects "RecentMap" y_X_last y_X_last,
  .code y_X_last prog_1_method_19_code 1 (some .int),
  .instanceMethod y_X_size,
  .selects "RecentMap" y_X_size y_X_size,
  .code y_X_size prog_1_method_20_code 1 (some .int),
  .instanceMethod y_X_clear,
  .selects "RecentMap" y_X_clear y_X_clear,
  .code y_X_clear prog_1_method_21_code 1 none,
  .methodLink "RecentMap" 86 y_T_clear,
  .instanceMethod y_T_clear,
  .selects "RecentMap$Tree" y_T_clear y_T_clear,
  .code y_T_clear prog_2_method_6_code 1 none,
  .instantiable "RecentMapModel" 3,
  .instanceMethod y_M_init,
  .code y_M_init prog_4_method_1_code 1 none,
  .methodLink "RecentMapModel" 1 objectInit,
  .fieldLink "RecentMapModel" 7 "RecentMapModel" "keys" "[I",
  .fieldLink "RecentMapModel" 13 "RecentMapModel" "vals" "[I",
  .fieldLink "RecentMapModel" 16 "RecentMapModel" "size" "I",
  .laysFinal "RecentMapModel" "RecentMapModel" "keys" "[I",
  .laysFinal "RecentMapModel" "RecentMapModel" "vals" "[I",
  .lays "RecentMapModel" "RecentMapModel" "size" "I",
  .instanceMethod y_M_put,
  .selects "RecentMapModel" y_M_put y_M_put,
  .code y_M_put prog_4_method_5_code 5 (some .int),
  .methodLink "RecentMapModel" 20 y_M_place,
  .instanceMethod y_M_place]
def WW_5 : List Cond := [.code y_M_place prog_4_method_2_code 3 (some .int),
  .methodLink "RecentMapModel" 24 y_M_lay,
  .instanceMethod y_M_lay,
  .code y_M_lay prog_4_method_4_code 5 none,
  .instanceMethod y_M_putFirst,
  .selects "RecentMapModel" y_M_putFirst y_M_putFirst,
  .code y_M_putFirst prog_4_method_7_code 3 (some .int),
  .methodLink "RecentMapModel" 31 y_M_move,
  .instanceMethod y_M_move,
  .code y_M_move prog_4_method_6_code 6 (some .int),
  .methodLink "RecentMapModel" 28 y_M_cut,
  .instanceMethod y_M_cut,
  .code y_M_cut prog_4_method_3_code 4 (some .int),
  .instanceMethod y_M_putLast,
  .selects "RecentMapModel" y_M_putLast y_M_putLast,
  .code y_M_putLast prog_4_method_8_code 3 (some .int),
  .instanceMethod y_M_touchFirst,
  .selects "RecentMapModel" y_M_touchFirst y_M_touchFirst,
  .code y_M_touchFirst prog_4_method_10_code 2 (some .int),
  .methodLink "RecentMapModel" 35 y_M_touch,
  .instanceMethod y_M_touch,
  .code y_M_touch prog_4_method_9_code 5 (some .int),
  .instanceMethod y_M_touchLast,
  .selects "RecentMapModel" y_M_touchLast y_M_touchLast,
  .code y_M_touchLast prog_4_method_11_code 2 (some .int),
  .instanceMethod y_M_get,
  .selects "RecentMapModel" y_M_get y_M_get,
  .code y_M_get prog_4_method_12_code 3 (some .int),
  .instanceMethod y_M_remove,
  .selects "RecentMapModel" y_M_remove y_M_remove]
def WW_6 : List Cond := [.code y_M_remove prog_4_method_13_code 3 (some .int),
  .instanceMethod y_M_dropFirst,
  .selects "RecentMapModel" y_M_dropFirst y_M_dropFirst,
  .code y_M_dropFirst prog_4_method_14_code 1 (some .int),
  .instanceMethod y_M_dropLast,
  .selects "RecentMapModel" y_M_dropLast y_M_dropLast,
  .code y_M_dropLast prog_4_method_15_code 1 (some .int),
  .instanceMethod y_M_first,
  .selects "RecentMapModel" y_M_first y_M_first,
  .code y_M_first prog_4_method_16_code 1 (some .int),
  .instanceMethod y_M_last,
  .selects "RecentMapModel" y_M_last y_M_last,
  .code y_M_last prog_4_method_17_code 1 (some .int),
  .instanceMethod y_M_size,
  .selects "RecentMapModel" y_M_size y_M_size,
  .code y_M_size prog_4_method_18_code 1 (some .int),
  .instanceMethod y_M_clear,
  .selects "RecentMapModel" y_M_clear y_M_clear,
  .code y_M_clear prog_4_method_19_code 1 none]
def WW : List Cond := WW_0 ++ WW_1 ++ WW_2 ++ WW_3 ++ WW_4 ++ WW_5 ++ WW_6
theorem k_0 : Cond.selects "RecentMap$Tree" y_T_lift y_T_lift ∈ WW := List.mem_of_getElem? (i := 0) rfl
theorem k_1 : Cond.selects "RecentMap" y_X_enter y_X_enter ∈ WW := List.mem_of_getElem? (i := 1) rfl
theorem k_2 : Cond.selects "RecentMap" y_X_place y_X_place ∈ WW := List.mem_of_getElem? (i := 2) rfl
theorem k_3 : Cond.selects "RecentMap" y_X_fasten y_X_fasten ∈ WW := List.mem_of_getElem? (i := 3) rfl
theorem k_4 : Cond.selects "RecentMap" y_X_change y_X_change ∈ WW := List.mem_of_getElem? (i := 4) rfl
theorem k_5 : Cond.selects "RecentMap" y_X_puts y_X_puts ∈ WW := List.mem_of_getElem? (i := 5) rfl
theorem k_6 : Cond.selects "RecentMap" y_X_loose y_X_loose ∈ WW := List.mem_of_getElem? (i := 6) rfl
theorem k_7 : Cond.selects "RecentMap" y_X_touch y_X_touch ∈ WW := List.mem_of_getElem? (i := 7) rfl
theorem k_8 : Cond.selects "RecentMapModel" y_M_place y_M_place ∈ WW := List.mem_of_getElem? (i := 8) rfl
theorem k_9 : Cond.selects "RecentMapModel" y_M_lay y_M_lay ∈ WW := List.mem_of_getElem? (i := 9) rfl
theorem k_10 : Cond.selects "RecentMapModel" y_M_move y_M_move ∈ WW := List.mem_of_getElem? (i := 10) rfl
theorem k_11 : Cond.selects "RecentMapModel" y_M_cut y_M_cut ∈ WW := List.mem_of_getElem? (i := 11) rfl
theorem k_12 : Cond.selects "RecentMapModel" y_M_touch y_M_touch ∈ WW := List.mem_of_getElem? (i := 12) rfl
theorem k_13 : Cond.initialized "RecentMap" ∈ WW := List.mem_of_getElem? (i := 13) rfl
theorem k_14 : Cond.initialized "RecentMap$Tree" ∈ WW := List.mem_of_getElem? (i := 14) rfl
theorem k_15 : Cond.initialized "RecentMapModel" ∈ WW := List.mem_of_getElem? (i := 15) rfl
theorem k_16 : Cond.instantiable "RecentMap" 9 ∈ WW := List.mem_of_getElem? (i := 16) rfl
theorem k_17 : Cond.instanceMethod y_X_init ∈ WW := List.mem_of_getElem? (i := 17) rfl
theorem k_18 : Cond.code y_X_init prog_1_method_1_code 1 none ∈ WW := List.mem_of_getElem? (i := 18) rfl
theorem k_19 : Cond.methodLink "RecentMap" 1 objectInit ∈ WW := List.mem_of_getElem? (i := 19) rfl
theorem k_20 : Cond.instanceMethod objectInit ∈ WW := List.mem_of_getElem? (i := 20) rfl
theorem k_21 : Cond.code objectInit object_method_1_code 1 none ∈ WW := List.mem_of_getElem? (i := 21) rfl
theorem k_22 : Cond.classLink "RecentMap" 7 "RecentMap$Tree" ∈ WW := List.mem_of_getElem? (i := 22) rfl
theorem k_23 : Cond.instantiable "RecentMap$Tree" 4 ∈ WW := List.mem_of_getElem? (i := 23) rfl
theorem k_24 : Cond.instanceMethod y_T_init ∈ WW := List.mem_of_getElem? (i := 24) rfl
theorem k_25 : Cond.code y_T_init prog_2_method_1_code 1 none ∈ WW := List.mem_of_getElem? (i := 25) rfl
theorem k_26 : Cond.methodLink "RecentMap$Tree" 3 objectInit ∈ WW := List.mem_of_getElem? (i := 26) rfl
theorem k_27 : Cond.fieldLink "RecentMap$Tree" 9 "RecentMap$Tree" "key" "[I" ∈ WW := List.mem_of_getElem? (i := 27) rfl
theorem k_28 : Cond.fieldLink "RecentMap" 80 "RecentMap$Tree" "key" "[I" ∈ WW := List.mem_of_getElem? (i := 28) rfl
theorem k_29 : Cond.fieldLink "RecentMap$Tree" 15 "RecentMap$Tree" "small" "[I" ∈ WW := List.mem_of_getElem? (i := 29) rfl
theorem k_30 : Cond.fieldLink "RecentMap$Tree" 18 "RecentMap$Tree" "great" "[I" ∈ WW := List.mem_of_getElem? (i := 30) rfl
theorem k_31 : Cond.fieldLink "RecentMap$Tree" 21 "RecentMap$Tree" "root" "I" ∈ WW := List.mem_of_getElem? (i := 31) rfl
theorem k_32 : Cond.laysFinal "RecentMap$Tree" "RecentMap$Tree" "key" "[I" ∈ WW := List.mem_of_getElem? (i := 32) rfl
theorem k_33 : Cond.laysFinal "RecentMap$Tree" "RecentMap$Tree" "small" "[I" ∈ WW := List.mem_of_getElem? (i := 33) rfl
theorem k_34 : Cond.laysFinal "RecentMap$Tree" "RecentMap$Tree" "great" "[I" ∈ WW := List.mem_of_getElem? (i := 34) rfl
theorem k_35 : Cond.lays "RecentMap$Tree" "RecentMap$Tree" "root" "I" ∈ WW := List.mem_of_getElem? (i := 35) rfl
theorem k_36 : Cond.arrayClass .int ∈ WW := List.mem_of_getElem? (i := 36) rfl
theorem k_37 : Cond.fieldLink "RecentMap" 10 "RecentMap" "tree" "LRecentMap$Tree;" ∈ WW := List.mem_of_getElem? (i := 37) rfl
theorem k_38 : Cond.fieldLink "RecentMap" 16 "RecentMap" "value" "[I" ∈ WW := List.mem_of_getElem? (i := 38) rfl
theorem k_39 : Cond.fieldLink "RecentMap" 20 "RecentMap" "before" "[I" ∈ WW := List.mem_of_getElem? (i := 39) rfl
theorem k_40 : Cond.fieldLink "RecentMap" 23 "RecentMap" "behind" "[I" ∈ WW := List.mem_of_getElem? (i := 40) rfl
theorem k_41 : Cond.fieldLink "RecentMap" 33 "RecentMap" "front" "I" ∈ WW := List.mem_of_getElem? (i := 41) rfl
theorem k_42 : Cond.fieldLink "RecentMap" 36 "RecentMap" "back" "I" ∈ WW := List.mem_of_getElem? (i := 42) rfl
theorem k_43 : Cond.fieldLink "RecentMap" 51 "RecentMap" "size" "I" ∈ WW := List.mem_of_getElem? (i := 43) rfl
theorem k_44 : Cond.fieldLink "RecentMap" 30 "RecentMap" "used" "I" ∈ WW := List.mem_of_getElem? (i := 44) rfl
theorem k_45 : Cond.fieldLink "RecentMap" 26 "RecentMap" "free" "I" ∈ WW := List.mem_of_getElem? (i := 45) rfl
theorem k_46 : Cond.laysFinal "RecentMap" "RecentMap" "tree" "LRecentMap$Tree;" ∈ WW := List.mem_of_getElem? (i := 46) rfl
theorem k_47 : Cond.laysFinal "RecentMap" "RecentMap" "value" "[I" ∈ WW := List.mem_of_getElem? (i := 47) rfl
theorem k_48 : Cond.laysFinal "RecentMap" "RecentMap" "before" "[I" ∈ WW := List.mem_of_getElem? (i := 48) rfl
theorem k_49 : Cond.laysFinal "RecentMap" "RecentMap" "behind" "[I" ∈ WW := List.mem_of_getElem? (i := 49) rfl
theorem k_50 : Cond.lays "RecentMap" "RecentMap" "front" "I" ∈ WW := List.mem_of_getElem? (i := 50) rfl
theorem k_51 : Cond.lays "RecentMap" "RecentMap" "back" "I" ∈ WW := List.mem_of_getElem? (i := 51) rfl
theorem k_52 : Cond.lays "RecentMap" "RecentMap" "size" "I" ∈ WW := List.mem_of_getElem? (i := 52) rfl
theorem k_53 : Cond.lays "RecentMap" "RecentMap" "used" "I" ∈ WW := List.mem_of_getElem? (i := 53) rfl
theorem k_54 : Cond.lays "RecentMap" "RecentMap" "free" "I" ∈ WW := List.mem_of_getElem? (i := 54) rfl
theorem k_55 : Cond.instanceMethod y_X_put ∈ WW := List.mem_of_getElem? (i := 55) rfl
theorem k_56 : Cond.selects "RecentMap" y_X_put y_X_put ∈ WW := List.mem_of_getElem? (i := 56) rfl
theorem k_57 : Cond.code y_X_put prog_1_method_7_code 4 (some .int) ∈ WW := List.mem_of_getElem? (i := 57) rfl
theorem k_58 : Cond.methodLink "RecentMap" 54 y_T_find ∈ WW := List.mem_of_getElem? (i := 58) rfl
theorem k_59 : Cond.instanceMethod y_T_find ∈ WW := List.mem_of_getElem? (i := 59) rfl
theorem k_60 : Cond.selects "RecentMap$Tree" y_T_find y_T_find ∈ WW := List.mem_of_getElem? (i := 60) rfl
theorem k_61 : Cond.code y_T_find prog_2_method_3_code 2 (some .int) ∈ WW := List.mem_of_getElem? (i := 61) rfl
theorem k_62 : Cond.methodLink "RecentMap$Tree" 25 y_T_lift ∈ WW := List.mem_of_getElem? (i := 62) rfl
theorem k_63 : Cond.instanceMethod y_T_lift ∈ WW := List.mem_of_getElem? (i := 63) rfl
theorem k_64 : Cond.code y_T_lift prog_2_method_2_code 10 none ∈ WW := List.mem_of_getElem? (i := 64) rfl
theorem k_65 : Cond.methodLink "RecentMap" 58 y_X_enter ∈ WW := List.mem_of_getElem? (i := 65) rfl
theorem k_66 : Cond.instanceMethod y_X_enter ∈ WW := List.mem_of_getElem? (i := 66) rfl
theorem k_67 : Cond.code y_X_enter prog_1_method_5_code 5 (some .int) ∈ WW := List.mem_of_getElem? (i := 67) rfl
theorem k_68 : Cond.methodLink "RecentMap" 39 y_X_place ∈ WW := List.mem_of_getElem? (i := 68) rfl
theorem k_69 : Cond.instanceMethod y_X_place ∈ WW := List.mem_of_getElem? (i := 69) rfl
theorem k_70 : Cond.code y_X_place prog_1_method_2_code 2 (some .int) ∈ WW := List.mem_of_getElem? (i := 70) rfl
theorem k_71 : Cond.methodLink "RecentMap" 43 y_T_add ∈ WW := List.mem_of_getElem? (i := 71) rfl
theorem k_72 : Cond.instanceMethod y_T_add ∈ WW := List.mem_of_getElem? (i := 72) rfl
theorem k_73 : Cond.selects "RecentMap$Tree" y_T_add y_T_add ∈ WW := List.mem_of_getElem? (i := 73) rfl
theorem k_74 : Cond.code y_T_add prog_2_method_4_code 3 none ∈ WW := List.mem_of_getElem? (i := 74) rfl
theorem k_75 : Cond.methodLink "RecentMap" 47 y_X_fasten ∈ WW := List.mem_of_getElem? (i := 75) rfl
theorem k_76 : Cond.instanceMethod y_X_fasten ∈ WW := List.mem_of_getElem? (i := 76) rfl
theorem k_77 : Cond.code y_X_fasten prog_1_method_4_code 3 none ∈ WW := List.mem_of_getElem? (i := 77) rfl
theorem k_78 : Cond.methodLink "RecentMap" 62 y_X_change ∈ WW := List.mem_of_getElem? (i := 78) rfl
theorem k_79 : Cond.instanceMethod y_X_change ∈ WW := List.mem_of_getElem? (i := 79) rfl
theorem k_80 : Cond.code y_X_change prog_1_method_6_code 4 (some .int) ∈ WW := List.mem_of_getElem? (i := 80) rfl
theorem k_81 : Cond.instanceMethod y_X_putFirst ∈ WW := List.mem_of_getElem? (i := 81) rfl
theorem k_82 : Cond.selects "RecentMap" y_X_putFirst y_X_putFirst ∈ WW := List.mem_of_getElem? (i := 82) rfl
theorem k_83 : Cond.code y_X_putFirst prog_1_method_9_code 3 (some .int) ∈ WW := List.mem_of_getElem? (i := 83) rfl
theorem k_84 : Cond.methodLink "RecentMap" 70 y_X_puts ∈ WW := List.mem_of_getElem? (i := 84) rfl
theorem k_85 : Cond.instanceMethod y_X_puts ∈ WW := List.mem_of_getElem? (i := 85) rfl
theorem k_86 : Cond.code y_X_puts prog_1_method_8_code 5 (some .int) ∈ WW := List.mem_of_getElem? (i := 86) rfl
theorem k_87 : Cond.methodLink "RecentMap" 66 y_X_loose ∈ WW := List.mem_of_getElem? (i := 87) rfl
theorem k_88 : Cond.instanceMethod y_X_loose ∈ WW := List.mem_of_getElem? (i := 88) rfl
theorem k_89 : Cond.code y_X_loose prog_1_method_3_code 4 none ∈ WW := List.mem_of_getElem? (i := 89) rfl
theorem k_90 : Cond.instanceMethod y_X_putLast ∈ WW := List.mem_of_getElem? (i := 90) rfl
theorem k_91 : Cond.selects "RecentMap" y_X_putLast y_X_putLast ∈ WW := List.mem_of_getElem? (i := 91) rfl
theorem k_92 : Cond.code y_X_putLast prog_1_method_10_code 3 (some .int) ∈ WW := List.mem_of_getElem? (i := 92) rfl
theorem k_93 : Cond.instanceMethod y_X_touchFirst ∈ WW := List.mem_of_getElem? (i := 93) rfl
theorem k_94 : Cond.selects "RecentMap" y_X_touchFirst y_X_touchFirst ∈ WW := List.mem_of_getElem? (i := 94) rfl
theorem k_95 : Cond.code y_X_touchFirst prog_1_method_12_code 2 (some .int) ∈ WW := List.mem_of_getElem? (i := 95) rfl
theorem k_96 : Cond.methodLink "RecentMap" 73 y_X_touch ∈ WW := List.mem_of_getElem? (i := 96) rfl
theorem k_97 : Cond.instanceMethod y_X_touch ∈ WW := List.mem_of_getElem? (i := 97) rfl
theorem k_98 : Cond.code y_X_touch prog_1_method_11_code 4 (some .int) ∈ WW := List.mem_of_getElem? (i := 98) rfl
theorem k_99 : Cond.instanceMethod y_X_touchLast ∈ WW := List.mem_of_getElem? (i := 99) rfl
theorem k_100 : Cond.selects "RecentMap" y_X_touchLast y_X_touchLast ∈ WW := List.mem_of_getElem? (i := 100) rfl
theorem k_101 : Cond.code y_X_touchLast prog_1_method_13_code 2 (some .int) ∈ WW := List.mem_of_getElem? (i := 101) rfl
theorem k_102 : Cond.instanceMethod y_X_get ∈ WW := List.mem_of_getElem? (i := 102) rfl
theorem k_103 : Cond.selects "RecentMap" y_X_get y_X_get ∈ WW := List.mem_of_getElem? (i := 103) rfl
theorem k_104 : Cond.code y_X_get prog_1_method_14_code 3 (some .int) ∈ WW := List.mem_of_getElem? (i := 104) rfl
theorem k_105 : Cond.instanceMethod y_X_remove ∈ WW := List.mem_of_getElem? (i := 105) rfl
theorem k_106 : Cond.selects "RecentMap" y_X_remove y_X_remove ∈ WW := List.mem_of_getElem? (i := 106) rfl
theorem k_107 : Cond.code y_X_remove prog_1_method_15_code 3 (some .int) ∈ WW := List.mem_of_getElem? (i := 107) rfl
theorem k_108 : Cond.methodLink "RecentMap" 77 y_T_cut ∈ WW := List.mem_of_getElem? (i := 108) rfl
theorem k_109 : Cond.instanceMethod y_T_cut ∈ WW := List.mem_of_getElem? (i := 109) rfl
theorem k_110 : Cond.selects "RecentMap$Tree" y_T_cut y_T_cut ∈ WW := List.mem_of_getElem? (i := 110) rfl
theorem k_111 : Cond.code y_T_cut prog_2_method_5_code 3 none ∈ WW := List.mem_of_getElem? (i := 111) rfl
theorem k_112 : Cond.instanceMethod y_X_dropFirst ∈ WW := List.mem_of_getElem? (i := 112) rfl
theorem k_113 : Cond.selects "RecentMap" y_X_dropFirst y_X_dropFirst ∈ WW := List.mem_of_getElem? (i := 113) rfl
theorem k_114 : Cond.code y_X_dropFirst prog_1_method_16_code 1 (some .int) ∈ WW := List.mem_of_getElem? (i := 114) rfl
theorem k_115 : Cond.methodLink "RecentMap" 83 y_X_remove ∈ WW := List.mem_of_getElem? (i := 115) rfl
theorem k_116 : Cond.instanceMethod y_X_dropLast ∈ WW := List.mem_of_getElem? (i := 116) rfl
theorem k_117 : Cond.selects "RecentMap" y_X_dropLast y_X_dropLast ∈ WW := List.mem_of_getElem? (i := 117) rfl
theorem k_118 : Cond.code y_X_dropLast prog_1_method_17_code 1 (some .int) ∈ WW := List.mem_of_getElem? (i := 118) rfl
theorem k_119 : Cond.instanceMethod y_X_first ∈ WW := List.mem_of_getElem? (i := 119) rfl
theorem k_120 : Cond.selects "RecentMap" y_X_first y_X_first ∈ WW := List.mem_of_getElem? (i := 120) rfl
theorem k_121 : Cond.code y_X_first prog_1_method_18_code 1 (some .int) ∈ WW := List.mem_of_getElem? (i := 121) rfl
theorem k_122 : Cond.instanceMethod y_X_last ∈ WW := List.mem_of_getElem? (i := 122) rfl
theorem k_123 : Cond.selects "RecentMap" y_X_last y_X_last ∈ WW := List.mem_of_getElem? (i := 123) rfl
theorem k_124 : Cond.code y_X_last prog_1_method_19_code 1 (some .int) ∈ WW := List.mem_of_getElem? (i := 124) rfl
theorem k_125 : Cond.instanceMethod y_X_size ∈ WW := List.mem_of_getElem? (i := 125) rfl
theorem k_126 : Cond.selects "RecentMap" y_X_size y_X_size ∈ WW := List.mem_of_getElem? (i := 126) rfl
theorem k_127 : Cond.code y_X_size prog_1_method_20_code 1 (some .int) ∈ WW := List.mem_of_getElem? (i := 127) rfl
theorem k_128 : Cond.instanceMethod y_X_clear ∈ WW := List.mem_of_getElem? (i := 128) rfl
theorem k_129 : Cond.selects "RecentMap" y_X_clear y_X_clear ∈ WW := List.mem_of_getElem? (i := 129) rfl
theorem k_130 : Cond.code y_X_clear prog_1_method_21_code 1 none ∈ WW := List.mem_of_getElem? (i := 130) rfl
theorem k_131 : Cond.methodLink "RecentMap" 86 y_T_clear ∈ WW := List.mem_of_getElem? (i := 131) rfl
theorem k_132 : Cond.instanceMethod y_T_clear ∈ WW := List.mem_of_getElem? (i := 132) rfl
theorem k_133 : Cond.selects "RecentMap$Tree" y_T_clear y_T_clear ∈ WW := List.mem_of_getElem? (i := 133) rfl
theorem k_134 : Cond.code y_T_clear prog_2_method_6_code 1 none ∈ WW := List.mem_of_getElem? (i := 134) rfl
theorem k_135 : Cond.instantiable "RecentMapModel" 3 ∈ WW := List.mem_of_getElem? (i := 135) rfl
theorem k_136 : Cond.instanceMethod y_M_init ∈ WW := List.mem_of_getElem? (i := 136) rfl
theorem k_137 : Cond.code y_M_init prog_4_method_1_code 1 none ∈ WW := List.mem_of_getElem? (i := 137) rfl
theorem k_138 : Cond.methodLink "RecentMapModel" 1 objectInit ∈ WW := List.mem_of_getElem? (i := 138) rfl
theorem k_139 : Cond.fieldLink "RecentMapModel" 7 "RecentMapModel" "keys" "[I" ∈ WW := List.mem_of_getElem? (i := 139) rfl
theorem k_140 : Cond.fieldLink "RecentMapModel" 13 "RecentMapModel" "vals" "[I" ∈ WW := List.mem_of_getElem? (i := 140) rfl
theorem k_141 : Cond.fieldLink "RecentMapModel" 16 "RecentMapModel" "size" "I" ∈ WW := List.mem_of_getElem? (i := 141) rfl
theorem k_142 : Cond.laysFinal "RecentMapModel" "RecentMapModel" "keys" "[I" ∈ WW := List.mem_of_getElem? (i := 142) rfl
theorem k_143 : Cond.laysFinal "RecentMapModel" "RecentMapModel" "vals" "[I" ∈ WW := List.mem_of_getElem? (i := 143) rfl
theorem k_144 : Cond.lays "RecentMapModel" "RecentMapModel" "size" "I" ∈ WW := List.mem_of_getElem? (i := 144) rfl
theorem k_145 : Cond.instanceMethod y_M_put ∈ WW := List.mem_of_getElem? (i := 145) rfl
theorem k_146 : Cond.selects "RecentMapModel" y_M_put y_M_put ∈ WW := List.mem_of_getElem? (i := 146) rfl
theorem k_147 : Cond.code y_M_put prog_4_method_5_code 5 (some .int) ∈ WW := List.mem_of_getElem? (i := 147) rfl
theorem k_148 : Cond.methodLink "RecentMapModel" 20 y_M_place ∈ WW := List.mem_of_getElem? (i := 148) rfl
theorem k_149 : Cond.instanceMethod y_M_place ∈ WW := List.mem_of_getElem? (i := 149) rfl
theorem k_150 : Cond.code y_M_place prog_4_method_2_code 3 (some .int) ∈ WW := List.mem_of_getElem? (i := 150) rfl
theorem k_151 : Cond.methodLink "RecentMapModel" 24 y_M_lay ∈ WW := List.mem_of_getElem? (i := 151) rfl
theorem k_152 : Cond.instanceMethod y_M_lay ∈ WW := List.mem_of_getElem? (i := 152) rfl
theorem k_153 : Cond.code y_M_lay prog_4_method_4_code 5 none ∈ WW := List.mem_of_getElem? (i := 153) rfl
theorem k_154 : Cond.instanceMethod y_M_putFirst ∈ WW := List.mem_of_getElem? (i := 154) rfl
theorem k_155 : Cond.selects "RecentMapModel" y_M_putFirst y_M_putFirst ∈ WW := List.mem_of_getElem? (i := 155) rfl
theorem k_156 : Cond.code y_M_putFirst prog_4_method_7_code 3 (some .int) ∈ WW := List.mem_of_getElem? (i := 156) rfl
theorem k_157 : Cond.methodLink "RecentMapModel" 31 y_M_move ∈ WW := List.mem_of_getElem? (i := 157) rfl
theorem k_158 : Cond.instanceMethod y_M_move ∈ WW := List.mem_of_getElem? (i := 158) rfl
theorem k_159 : Cond.code y_M_move prog_4_method_6_code 6 (some .int) ∈ WW := List.mem_of_getElem? (i := 159) rfl
theorem k_160 : Cond.methodLink "RecentMapModel" 28 y_M_cut ∈ WW := List.mem_of_getElem? (i := 160) rfl
theorem k_161 : Cond.instanceMethod y_M_cut ∈ WW := List.mem_of_getElem? (i := 161) rfl
theorem k_162 : Cond.code y_M_cut prog_4_method_3_code 4 (some .int) ∈ WW := List.mem_of_getElem? (i := 162) rfl
theorem k_163 : Cond.instanceMethod y_M_putLast ∈ WW := List.mem_of_getElem? (i := 163) rfl
theorem k_164 : Cond.selects "RecentMapModel" y_M_putLast y_M_putLast ∈ WW := List.mem_of_getElem? (i := 164) rfl
theorem k_165 : Cond.code y_M_putLast prog_4_method_8_code 3 (some .int) ∈ WW := List.mem_of_getElem? (i := 165) rfl
theorem k_166 : Cond.instanceMethod y_M_touchFirst ∈ WW := List.mem_of_getElem? (i := 166) rfl
theorem k_167 : Cond.selects "RecentMapModel" y_M_touchFirst y_M_touchFirst ∈ WW := List.mem_of_getElem? (i := 167) rfl
theorem k_168 : Cond.code y_M_touchFirst prog_4_method_10_code 2 (some .int) ∈ WW := List.mem_of_getElem? (i := 168) rfl
theorem k_169 : Cond.methodLink "RecentMapModel" 35 y_M_touch ∈ WW := List.mem_of_getElem? (i := 169) rfl
theorem k_170 : Cond.instanceMethod y_M_touch ∈ WW := List.mem_of_getElem? (i := 170) rfl
theorem k_171 : Cond.code y_M_touch prog_4_method_9_code 5 (some .int) ∈ WW := List.mem_of_getElem? (i := 171) rfl
theorem k_172 : Cond.instanceMethod y_M_touchLast ∈ WW := List.mem_of_getElem? (i := 172) rfl
theorem k_173 : Cond.selects "RecentMapModel" y_M_touchLast y_M_touchLast ∈ WW := List.mem_of_getElem? (i := 173) rfl
theorem k_174 : Cond.code y_M_touchLast prog_4_method_11_code 2 (some .int) ∈ WW := List.mem_of_getElem? (i := 174) rfl
theorem k_175 : Cond.instanceMethod y_M_get ∈ WW := List.mem_of_getElem? (i := 175) rfl
theorem k_176 : Cond.selects "RecentMapModel" y_M_get y_M_get ∈ WW := List.mem_of_getElem? (i := 176) rfl
theorem k_177 : Cond.code y_M_get prog_4_method_12_code 3 (some .int) ∈ WW := List.mem_of_getElem? (i := 177) rfl
theorem k_178 : Cond.instanceMethod y_M_remove ∈ WW := List.mem_of_getElem? (i := 178) rfl
theorem k_179 : Cond.selects "RecentMapModel" y_M_remove y_M_remove ∈ WW := List.mem_of_getElem? (i := 179) rfl
theorem k_180 : Cond.code y_M_remove prog_4_method_13_code 3 (some .int) ∈ WW := List.mem_of_getElem? (i := 180) rfl
theorem k_181 : Cond.instanceMethod y_M_dropFirst ∈ WW := List.mem_of_getElem? (i := 181) rfl
theorem k_182 : Cond.selects "RecentMapModel" y_M_dropFirst y_M_dropFirst ∈ WW := List.mem_of_getElem? (i := 182) rfl
theorem k_183 : Cond.code y_M_dropFirst prog_4_method_14_code 1 (some .int) ∈ WW := List.mem_of_getElem? (i := 183) rfl
theorem k_184 : Cond.instanceMethod y_M_dropLast ∈ WW := List.mem_of_getElem? (i := 184) rfl
theorem k_185 : Cond.selects "RecentMapModel" y_M_dropLast y_M_dropLast ∈ WW := List.mem_of_getElem? (i := 185) rfl
theorem k_186 : Cond.code y_M_dropLast prog_4_method_15_code 1 (some .int) ∈ WW := List.mem_of_getElem? (i := 186) rfl
theorem k_187 : Cond.instanceMethod y_M_first ∈ WW := List.mem_of_getElem? (i := 187) rfl
theorem k_188 : Cond.selects "RecentMapModel" y_M_first y_M_first ∈ WW := List.mem_of_getElem? (i := 188) rfl
theorem k_189 : Cond.code y_M_first prog_4_method_16_code 1 (some .int) ∈ WW := List.mem_of_getElem? (i := 189) rfl
theorem k_190 : Cond.instanceMethod y_M_last ∈ WW := List.mem_of_getElem? (i := 190) rfl
theorem k_191 : Cond.selects "RecentMapModel" y_M_last y_M_last ∈ WW := List.mem_of_getElem? (i := 191) rfl
theorem k_192 : Cond.code y_M_last prog_4_method_17_code 1 (some .int) ∈ WW := List.mem_of_getElem? (i := 192) rfl
theorem k_193 : Cond.instanceMethod y_M_size ∈ WW := List.mem_of_getElem? (i := 193) rfl
theorem k_194 : Cond.selects "RecentMapModel" y_M_size y_M_size ∈ WW := List.mem_of_getElem? (i := 194) rfl
theorem k_195 : Cond.code y_M_size prog_4_method_18_code 1 (some .int) ∈ WW := List.mem_of_getElem? (i := 195) rfl
theorem k_196 : Cond.instanceMethod y_M_clear ∈ WW := List.mem_of_getElem? (i := 196) rfl
theorem k_197 : Cond.selects "RecentMapModel" y_M_clear y_M_clear ∈ WW := List.mem_of_getElem? (i := 197) rfl
theorem k_198 : Cond.code y_M_clear prog_4_method_19_code 1 none ∈ WW := List.mem_of_getElem? (i := 198) rfl
theorem WW_0_tbl : ∀ w ∈ WW_0, w ∈ lw_tbl := List.forall_mem_cons.mpr ⟨List.mem_append_left _ (List.mem_of_getElem? (i := 0) rfl), List.forall_mem_cons.mpr ⟨List.mem_append_left _ (List.mem_of_getElem? (i := 1) rfl), List.forall_mem_cons.mpr ⟨List.mem_append_left _ (List.mem_of_getElem? (i := 2) rfl), List.forall_mem_cons.mpr ⟨List.mem_append_left _ (List.mem_of_getElem? (i := 3) rfl), List.forall_mem_cons.mpr ⟨List.mem_append_left _ (List.mem_of_getElem? (i := 4) rfl), List.forall_mem_cons.mpr ⟨List.mem_append_left _ (List.mem_of_getElem? (i := 5) rfl), List.forall_mem_cons.mpr ⟨List.mem_append_left _ (List.mem_of_getElem? (i := 6) rfl), List.forall_mem_cons.mpr ⟨List.mem_append_left _ (List.mem_of_getElem? (i := 7) rfl), List.forall_mem_cons.mpr ⟨List.mem_append_left _ (List.mem_of_getElem? (i := 8) rfl), List.forall_mem_cons.mpr ⟨List.mem_append_left _ (List.mem_of_getElem? (i := 9) rfl), List.forall_mem_cons.mpr ⟨List.mem_append_left _ (List.mem_of_getElem? (i := 10) rfl), List.forall_mem_cons.mpr ⟨List.mem_append_left _ (List.mem_of_getElem? (i := 11) rfl), List.forall_mem_cons.mpr ⟨List.mem_append_left _ (List.mem_of_getElem? (i := 12) rfl), List.forall_mem_cons.mpr ⟨List.mem_append_right _ (List.mem_append_left _ (List.mem_of_getElem? (i := 1) rfl)), List.forall_mem_cons.mpr ⟨List.mem_append_right _ (List.mem_append_left _ (List.mem_of_getElem? (i := 2) rfl)), List.forall_mem_cons.mpr ⟨List.mem_append_right _ (List.mem_append_left _ (List.mem_of_getElem? (i := 3) rfl)), List.forall_mem_cons.mpr ⟨List.mem_append_right _ (List.mem_append_left _ (List.mem_of_getElem? (i := 5) rfl)), List.forall_mem_cons.mpr ⟨List.mem_append_right _ (List.mem_append_left _ (List.mem_of_getElem? (i := 7) rfl)), List.forall_mem_cons.mpr ⟨List.mem_append_right _ (List.mem_append_left _ (List.mem_of_getElem? (i := 8) rfl)), List.forall_mem_cons.mpr ⟨List.mem_append_right _ (List.mem_append_left _ (List.mem_of_getElem? (i := 9) rfl)), List.forall_mem_cons.mpr ⟨List.mem_append_right _ (List.mem_append_left _ (List.mem_of_getElem? (i := 10) rfl)), List.forall_mem_cons.mpr ⟨List.mem_append_right _ (List.mem_append_left _ (List.mem_of_getElem? (i := 11) rfl)), List.forall_mem_cons.mpr ⟨List.mem_append_right _ (List.mem_append_left _ (List.mem_of_getElem? (i := 12) rfl)), List.forall_mem_cons.mpr ⟨List.mem_append_right _ (List.mem_append_left _ (List.mem_of_getElem? (i := 13) rfl)), List.forall_mem_cons.mpr ⟨List.mem_append_right _ (List.mem_append_left _ (List.mem_of_getElem? (i := 15) rfl)), List.forall_mem_cons.mpr ⟨List.mem_append_right _ (List.mem_append_left _ (List.mem_of_getElem? (i := 16) rfl)), List.forall_mem_cons.mpr ⟨List.mem_append_right _ (List.mem_append_left _ (List.mem_of_getElem? (i := 17) rfl)), List.forall_mem_cons.mpr ⟨List.mem_append_right _ (List.mem_append_left _ (List.mem_of_getElem? (i := 18) rfl)), List.forall_mem_cons.mpr ⟨List.mem_append_right _ (List.mem_append_left _ (List.mem_of_getElem? (i := 19) rfl)), List.forall_mem_cons.mpr ⟨List.mem_append_right _ (List.mem_append_left _ (List.mem_of_getElem? (i := 20) rfl)), fun _ h => absurd h List.not_mem_nil⟩⟩⟩⟩⟩⟩⟩⟩⟩⟩⟩⟩⟩⟩⟩⟩⟩⟩⟩⟩⟩⟩⟩⟩⟩⟩⟩⟩⟩⟩
theorem WW_1_tbl : ∀ w ∈ WW_1, w ∈ lw_tbl := List.forall_mem_cons.mpr ⟨List.mem_append_right _ (List.mem_append_left _ (List.mem_of_getElem? (i := 21) rfl)), List.forall_mem_cons.mpr ⟨List.mem_append_right _ (List.mem_append_left _ (List.mem_of_getElem? (i := 22) rfl)), List.forall_mem_cons.mpr ⟨List.mem_append_right _ (List.mem_append_left _ (List.mem_of_getElem? (i := 23) rfl)), List.forall_mem_cons.mpr ⟨List.mem_append_right _ (List.mem_append_left _ (List.mem_of_getElem? (i := 25) rfl)), List.forall_mem_cons.mpr ⟨List.mem_append_right _ (List.mem_append_left _ (List.mem_of_getElem? (i := 27) rfl)), List.forall_mem_cons.mpr ⟨List.mem_append_right _ (List.mem_append_left _ (List.mem_of_getElem? (i := 29) rfl)), List.forall_mem_cons.mpr ⟨List.mem_append_right _ (List.mem_append_left _ (List.mem_of_getElem? (i := 32) rfl)), List.forall_mem_cons.mpr ⟨List.mem_append_right _ (List.mem_append_left _ (List.mem_of_getElem? (i := 33) rfl)), List.forall_mem_cons.mpr ⟨List.mem_append_right _ (List.mem_append_left _ (List.mem_of_getElem? (i := 34) rfl)), List.forall_mem_cons.mpr ⟨List.mem_append_right _ (List.mem_append_left _ (List.mem_of_getElem? (i := 35) rfl)), List.forall_mem_cons.mpr ⟨List.mem_append_right _ (List.mem_append_left _ (List.mem_of_getElem? (i := 36) rfl)), List.forall_mem_cons.mpr ⟨List.mem_append_right _ (List.mem_append_left _ (List.mem_of_getElem? (i := 37) rfl)), List.forall_mem_cons.mpr ⟨List.mem_append_right _ (List.mem_append_left _ (List.mem_of_getElem? (i := 38) rfl)), List.forall_mem_cons.mpr ⟨List.mem_append_right _ (List.mem_append_left _ (List.mem_of_getElem? (i := 39) rfl)), List.forall_mem_cons.mpr ⟨List.mem_append_right _ (List.mem_append_left _ (List.mem_of_getElem? (i := 40) rfl)), List.forall_mem_cons.mpr ⟨List.mem_append_right _ (List.mem_append_left _ (List.mem_of_getElem? (i := 41) rfl)), List.forall_mem_cons.mpr ⟨List.mem_append_right _ (List.mem_append_left _ (List.mem_of_getElem? (i := 42) rfl)), List.forall_mem_cons.mpr ⟨List.mem_append_right _ (List.mem_append_left _ (List.mem_of_getElem? (i := 44) rfl)), List.forall_mem_cons.mpr ⟨List.mem_append_right _ (List.mem_append_left _ (List.mem_of_getElem? (i := 46) rfl)), List.forall_mem_cons.mpr ⟨List.mem_append_right _ (List.mem_append_left _ (List.mem_of_getElem? (i := 48) rfl)), List.forall_mem_cons.mpr ⟨List.mem_append_right _ (List.mem_append_left _ (List.mem_of_getElem? (i := 50) rfl)), List.forall_mem_cons.mpr ⟨List.mem_append_right _ (List.mem_append_left _ (List.mem_of_getElem? (i := 52) rfl)), List.forall_mem_cons.mpr ⟨List.mem_append_right _ (List.mem_append_left _ (List.mem_of_getElem? (i := 54) rfl)), List.forall_mem_cons.mpr ⟨List.mem_append_right _ (List.mem_append_left _ (List.mem_of_getElem? (i := 56) rfl)), List.forall_mem_cons.mpr ⟨List.mem_append_right _ (List.mem_append_left _ (List.mem_of_getElem? (i := 58) rfl)), List.forall_mem_cons.mpr ⟨List.mem_append_right _ (List.mem_append_left _ (List.mem_of_getElem? (i := 62) rfl)), List.forall_mem_cons.mpr ⟨List.mem_append_right _ (List.mem_append_left _ (List.mem_of_getElem? (i := 63) rfl)), List.forall_mem_cons.mpr ⟨List.mem_append_right _ (List.mem_append_left _ (List.mem_of_getElem? (i := 64) rfl)), List.forall_mem_cons.mpr ⟨List.mem_append_right _ (List.mem_append_left _ (List.mem_of_getElem? (i := 65) rfl)), List.forall_mem_cons.mpr ⟨List.mem_append_right _ (List.mem_append_left _ (List.mem_of_getElem? (i := 66) rfl)), fun _ h => absurd h List.not_mem_nil⟩⟩⟩⟩⟩⟩⟩⟩⟩⟩⟩⟩⟩⟩⟩⟩⟩⟩⟩⟩⟩⟩⟩⟩⟩⟩⟩⟩⟩⟩
theorem WW_2_tbl : ∀ w ∈ WW_2, w ∈ lw_tbl := List.forall_mem_cons.mpr ⟨List.mem_append_right _ (List.mem_append_left _ (List.mem_of_getElem? (i := 67) rfl)), List.forall_mem_cons.mpr ⟨List.mem_append_right _ (List.mem_append_left _ (List.mem_of_getElem? (i := 68) rfl)), List.forall_mem_cons.mpr ⟨List.mem_append_right _ (List.mem_append_left _ (List.mem_of_getElem? (i := 69) rfl)), List.forall_mem_cons.mpr ⟨List.mem_append_right _ (List.mem_append_left _ (List.mem_of_getElem? (i := 71) rfl)), List.forall_mem_cons.mpr ⟨List.mem_append_right _ (List.mem_append_left _ (List.mem_of_getElem? (i := 72) rfl)), List.forall_mem_cons.mpr ⟨List.mem_append_right _ (List.mem_append_left _ (List.mem_of_getElem? (i := 73) rfl)), List.forall_mem_cons.mpr ⟨List.mem_append_right _ (List.mem_append_left _ (List.mem_of_getElem? (i := 75) rfl)), List.forall_mem_cons.mpr ⟨List.mem_append_right _ (List.mem_append_left _ (List.mem_of_getElem? (i := 76) rfl)), List.forall_mem_cons.mpr ⟨List.mem_append_right _ (List.mem_append_left _ (List.mem_of_getElem? (i := 77) rfl)), List.forall_mem_cons.mpr ⟨List.mem_append_right _ (List.mem_append_left _ (List.mem_of_getElem? (i := 79) rfl)), List.forall_mem_cons.mpr ⟨List.mem_append_right _ (List.mem_append_left _ (List.mem_of_getElem? (i := 80) rfl)), List.forall_mem_cons.mpr ⟨List.mem_append_right _ (List.mem_append_left _ (List.mem_of_getElem? (i := 81) rfl)), List.forall_mem_cons.mpr ⟨List.mem_append_right _ (List.mem_append_left _ (List.mem_of_getElem? (i := 82) rfl)), List.forall_mem_cons.mpr ⟨List.mem_append_right _ (List.mem_append_left _ (List.mem_of_getElem? (i := 83) rfl)), List.forall_mem_cons.mpr ⟨List.mem_append_right _ (List.mem_append_left _ (List.mem_of_getElem? (i := 84) rfl)), List.forall_mem_cons.mpr ⟨List.mem_append_right _ (List.mem_append_left _ (List.mem_of_getElem? (i := 85) rfl)), List.forall_mem_cons.mpr ⟨List.mem_append_right _ (List.mem_append_left _ (List.mem_of_getElem? (i := 87) rfl)), List.forall_mem_cons.mpr ⟨List.mem_append_right _ (List.mem_append_left _ (List.mem_of_getElem? (i := 88) rfl)), List.forall_mem_cons.mpr ⟨List.mem_append_right _ (List.mem_append_left _ (List.mem_of_getElem? (i := 89) rfl)), List.forall_mem_cons.mpr ⟨List.mem_append_right _ (List.mem_append_left _ (List.mem_of_getElem? (i := 91) rfl)), List.forall_mem_cons.mpr ⟨List.mem_append_right _ (List.mem_append_left _ (List.mem_of_getElem? (i := 92) rfl)), List.forall_mem_cons.mpr ⟨List.mem_append_right _ (List.mem_append_left _ (List.mem_of_getElem? (i := 94) rfl)), List.forall_mem_cons.mpr ⟨List.mem_append_right _ (List.mem_append_left _ (List.mem_of_getElem? (i := 95) rfl)), List.forall_mem_cons.mpr ⟨List.mem_append_right _ (List.mem_append_left _ (List.mem_of_getElem? (i := 96) rfl)), List.forall_mem_cons.mpr ⟨List.mem_append_right _ (List.mem_append_left _ (List.mem_of_getElem? (i := 97) rfl)), List.forall_mem_cons.mpr ⟨List.mem_append_right _ (List.mem_append_left _ (List.mem_of_getElem? (i := 99) rfl)), List.forall_mem_cons.mpr ⟨List.mem_append_right _ (List.mem_append_left _ (List.mem_of_getElem? (i := 100) rfl)), List.forall_mem_cons.mpr ⟨List.mem_append_right _ (List.mem_append_left _ (List.mem_of_getElem? (i := 101) rfl)), List.forall_mem_cons.mpr ⟨List.mem_append_right _ (List.mem_append_left _ (List.mem_of_getElem? (i := 103) rfl)), List.forall_mem_cons.mpr ⟨List.mem_append_right _ (List.mem_append_left _ (List.mem_of_getElem? (i := 104) rfl)), fun _ h => absurd h List.not_mem_nil⟩⟩⟩⟩⟩⟩⟩⟩⟩⟩⟩⟩⟩⟩⟩⟩⟩⟩⟩⟩⟩⟩⟩⟩⟩⟩⟩⟩⟩⟩
theorem WW_3_tbl : ∀ w ∈ WW_3, w ∈ lw_tbl := List.forall_mem_cons.mpr ⟨List.mem_append_right _ (List.mem_append_left _ (List.mem_of_getElem? (i := 106) rfl)), List.forall_mem_cons.mpr ⟨List.mem_append_right _ (List.mem_append_left _ (List.mem_of_getElem? (i := 107) rfl)), List.forall_mem_cons.mpr ⟨List.mem_append_right _ (List.mem_append_left _ (List.mem_of_getElem? (i := 108) rfl)), List.forall_mem_cons.mpr ⟨List.mem_append_right _ (List.mem_append_left _ (List.mem_of_getElem? (i := 110) rfl)), List.forall_mem_cons.mpr ⟨List.mem_append_right _ (List.mem_append_left _ (List.mem_of_getElem? (i := 111) rfl)), List.forall_mem_cons.mpr ⟨List.mem_append_right _ (List.mem_append_left _ (List.mem_of_getElem? (i := 112) rfl)), List.forall_mem_cons.mpr ⟨List.mem_append_right _ (List.mem_append_left _ (List.mem_of_getElem? (i := 113) rfl)), List.forall_mem_cons.mpr ⟨List.mem_append_right _ (List.mem_append_left _ (List.mem_of_getElem? (i := 115) rfl)), List.forall_mem_cons.mpr ⟨List.mem_append_right _ (List.mem_append_left _ (List.mem_of_getElem? (i := 116) rfl)), List.forall_mem_cons.mpr ⟨List.mem_append_right _ (List.mem_append_left _ (List.mem_of_getElem? (i := 118) rfl)), List.forall_mem_cons.mpr ⟨List.mem_append_right _ (List.mem_append_left _ (List.mem_of_getElem? (i := 119) rfl)), List.forall_mem_cons.mpr ⟨List.mem_append_right _ (List.mem_append_left _ (List.mem_of_getElem? (i := 120) rfl)), List.forall_mem_cons.mpr ⟨List.mem_append_right _ (List.mem_append_left _ (List.mem_of_getElem? (i := 122) rfl)), List.forall_mem_cons.mpr ⟨List.mem_append_right _ (List.mem_append_left _ (List.mem_of_getElem? (i := 123) rfl)), List.forall_mem_cons.mpr ⟨List.mem_append_right _ (List.mem_append_left _ (List.mem_of_getElem? (i := 124) rfl)), List.forall_mem_cons.mpr ⟨List.mem_append_right _ (List.mem_append_left _ (List.mem_of_getElem? (i := 126) rfl)), List.forall_mem_cons.mpr ⟨List.mem_append_right _ (List.mem_append_left _ (List.mem_of_getElem? (i := 127) rfl)), List.forall_mem_cons.mpr ⟨List.mem_append_right _ (List.mem_append_left _ (List.mem_of_getElem? (i := 128) rfl)), List.forall_mem_cons.mpr ⟨List.mem_append_right _ (List.mem_append_left _ (List.mem_of_getElem? (i := 129) rfl)), List.forall_mem_cons.mpr ⟨List.mem_append_right _ (List.mem_append_left _ (List.mem_of_getElem? (i := 130) rfl)), List.forall_mem_cons.mpr ⟨List.mem_append_right _ (List.mem_append_left _ (List.mem_of_getElem? (i := 131) rfl)), List.forall_mem_cons.mpr ⟨List.mem_append_right _ (List.mem_append_left _ (List.mem_of_getElem? (i := 132) rfl)), List.forall_mem_cons.mpr ⟨List.mem_append_right _ (List.mem_append_left _ (List.mem_of_getElem? (i := 134) rfl)), List.forall_mem_cons.mpr ⟨List.mem_append_right _ (List.mem_append_left _ (List.mem_of_getElem? (i := 135) rfl)), List.forall_mem_cons.mpr ⟨List.mem_append_right _ (List.mem_append_left _ (List.mem_of_getElem? (i := 136) rfl)), List.forall_mem_cons.mpr ⟨List.mem_append_right _ (List.mem_append_left _ (List.mem_of_getElem? (i := 137) rfl)), List.forall_mem_cons.mpr ⟨List.mem_append_right _ (List.mem_append_left _ (List.mem_of_getElem? (i := 139) rfl)), List.forall_mem_cons.mpr ⟨List.mem_append_right _ (List.mem_append_left _ (List.mem_of_getElem? (i := 140) rfl)), List.forall_mem_cons.mpr ⟨List.mem_append_right _ (List.mem_append_left _ (List.mem_of_getElem? (i := 141) rfl)), List.forall_mem_cons.mpr ⟨List.mem_append_right _ (List.mem_append_left _ (List.mem_of_getElem? (i := 143) rfl)), fun _ h => absurd h List.not_mem_nil⟩⟩⟩⟩⟩⟩⟩⟩⟩⟩⟩⟩⟩⟩⟩⟩⟩⟩⟩⟩⟩⟩⟩⟩⟩⟩⟩⟩⟩⟩
theorem WW_4_tbl : ∀ w ∈ WW_4, w ∈ lw_tbl := List.forall_mem_cons.mpr ⟨List.mem_append_right _ (List.mem_append_left _ (List.mem_of_getElem? (i := 144) rfl)), List.forall_mem_cons.mpr ⟨List.mem_append_right _ (List.mem_append_left _ (List.mem_of_getElem? (i := 145) rfl)), List.forall_mem_cons.mpr ⟨List.mem_append_right _ (List.mem_append_left _ (List.mem_of_getElem? (i := 147) rfl)), List.forall_mem_cons.mpr ⟨List.mem_append_right _ (List.mem_append_left _ (List.mem_of_getElem? (i := 148) rfl)), List.forall_mem_cons.mpr ⟨List.mem_append_right _ (List.mem_append_left _ (List.mem_of_getElem? (i := 149) rfl)), List.forall_mem_cons.mpr ⟨List.mem_append_right _ (List.mem_append_left _ (List.mem_of_getElem? (i := 151) rfl)), List.forall_mem_cons.mpr ⟨List.mem_append_right _ (List.mem_append_left _ (List.mem_of_getElem? (i := 152) rfl)), List.forall_mem_cons.mpr ⟨List.mem_append_right _ (List.mem_append_left _ (List.mem_of_getElem? (i := 153) rfl)), List.forall_mem_cons.mpr ⟨List.mem_append_right _ (List.mem_append_left _ (List.mem_of_getElem? (i := 155) rfl)), List.forall_mem_cons.mpr ⟨List.mem_append_right _ (List.mem_append_left _ (List.mem_of_getElem? (i := 156) rfl)), List.forall_mem_cons.mpr ⟨List.mem_append_right _ (List.mem_append_left _ (List.mem_of_getElem? (i := 157) rfl)), List.forall_mem_cons.mpr ⟨List.mem_append_right _ (List.mem_append_left _ (List.mem_of_getElem? (i := 158) rfl)), List.forall_mem_cons.mpr ⟨List.mem_append_right _ (List.mem_append_left _ (List.mem_of_getElem? (i := 159) rfl)), List.forall_mem_cons.mpr ⟨List.mem_append_right _ (List.mem_append_left _ (List.mem_of_getElem? (i := 160) rfl)), List.forall_mem_cons.mpr ⟨List.mem_append_right _ (List.mem_append_left _ (List.mem_of_getElem? (i := 161) rfl)), List.forall_mem_cons.mpr ⟨List.mem_append_right _ (List.mem_append_left _ (List.mem_of_getElem? (i := 163) rfl)), List.forall_mem_cons.mpr ⟨List.mem_append_right _ (List.mem_append_left _ (List.mem_of_getElem? (i := 165) rfl)), List.forall_mem_cons.mpr ⟨List.mem_append_right _ (List.mem_append_left _ (List.mem_of_getElem? (i := 166) rfl)), List.forall_mem_cons.mpr ⟨List.mem_append_right _ (List.mem_append_left _ (List.mem_of_getElem? (i := 167) rfl)), List.forall_mem_cons.mpr ⟨List.mem_append_right _ (List.mem_append_left _ (List.mem_of_getElem? (i := 168) rfl)), List.forall_mem_cons.mpr ⟨List.mem_append_right _ (List.mem_append_left _ (List.mem_of_getElem? (i := 169) rfl)), List.forall_mem_cons.mpr ⟨List.mem_append_right _ (List.mem_append_left _ (List.mem_of_getElem? (i := 170) rfl)), List.forall_mem_cons.mpr ⟨List.mem_append_right _ (List.mem_append_left _ (List.mem_of_getElem? (i := 171) rfl)), List.forall_mem_cons.mpr ⟨List.mem_append_right _ (List.mem_append_left _ (List.mem_of_getElem? (i := 173) rfl)), List.forall_mem_cons.mpr ⟨List.mem_append_right _ (List.mem_append_left _ (List.mem_of_getElem? (i := 175) rfl)), List.forall_mem_cons.mpr ⟨List.mem_append_right _ (List.mem_append_left _ (List.mem_of_getElem? (i := 179) rfl)), List.forall_mem_cons.mpr ⟨List.mem_append_right _ (List.mem_append_left _ (List.mem_of_getElem? (i := 180) rfl)), List.forall_mem_cons.mpr ⟨List.mem_append_right _ (List.mem_append_left _ (List.mem_of_getElem? (i := 181) rfl)), List.forall_mem_cons.mpr ⟨List.mem_append_right _ (List.mem_append_left _ (List.mem_of_getElem? (i := 182) rfl)), List.forall_mem_cons.mpr ⟨List.mem_append_right _ (List.mem_append_left _ (List.mem_of_getElem? (i := 184) rfl)), fun _ h => absurd h List.not_mem_nil⟩⟩⟩⟩⟩⟩⟩⟩⟩⟩⟩⟩⟩⟩⟩⟩⟩⟩⟩⟩⟩⟩⟩⟩⟩⟩⟩⟩⟩⟩
theorem WW_5_tbl : ∀ w ∈ WW_5, w ∈ lw_tbl := List.forall_mem_cons.mpr ⟨List.mem_append_right _ (List.mem_append_left _ (List.mem_of_getElem? (i := 185) rfl)), List.forall_mem_cons.mpr ⟨List.mem_append_right _ (List.mem_append_left _ (List.mem_of_getElem? (i := 186) rfl)), List.forall_mem_cons.mpr ⟨List.mem_append_right _ (List.mem_append_left _ (List.mem_of_getElem? (i := 188) rfl)), List.forall_mem_cons.mpr ⟨List.mem_append_right _ (List.mem_append_left _ (List.mem_of_getElem? (i := 189) rfl)), List.forall_mem_cons.mpr ⟨List.mem_append_right _ (List.mem_append_left _ (List.mem_of_getElem? (i := 191) rfl)), List.forall_mem_cons.mpr ⟨List.mem_append_right _ (List.mem_append_left _ (List.mem_of_getElem? (i := 192) rfl)), List.forall_mem_cons.mpr ⟨List.mem_append_right _ (List.mem_append_left _ (List.mem_of_getElem? (i := 193) rfl)), List.forall_mem_cons.mpr ⟨List.mem_append_right _ (List.mem_append_left _ (List.mem_of_getElem? (i := 194) rfl)), List.forall_mem_cons.mpr ⟨List.mem_append_right _ (List.mem_append_left _ (List.mem_of_getElem? (i := 196) rfl)), List.forall_mem_cons.mpr ⟨List.mem_append_right _ (List.mem_append_left _ (List.mem_of_getElem? (i := 197) rfl)), List.forall_mem_cons.mpr ⟨List.mem_append_right _ (List.mem_append_left _ (List.mem_of_getElem? (i := 198) rfl)), List.forall_mem_cons.mpr ⟨List.mem_append_right _ (List.mem_append_left _ (List.mem_of_getElem? (i := 200) rfl)), List.forall_mem_cons.mpr ⟨List.mem_append_right _ (List.mem_append_left _ (List.mem_of_getElem? (i := 201) rfl)), List.forall_mem_cons.mpr ⟨List.mem_append_right _ (List.mem_append_left _ (List.mem_of_getElem? (i := 203) rfl)), List.forall_mem_cons.mpr ⟨List.mem_append_right _ (List.mem_append_left _ (List.mem_of_getElem? (i := 204) rfl)), List.forall_mem_cons.mpr ⟨List.mem_append_right _ (List.mem_append_left _ (List.mem_of_getElem? (i := 205) rfl)), List.forall_mem_cons.mpr ⟨List.mem_append_right _ (List.mem_append_left _ (List.mem_of_getElem? (i := 207) rfl)), List.forall_mem_cons.mpr ⟨List.mem_append_right _ (List.mem_append_left _ (List.mem_of_getElem? (i := 208) rfl)), List.forall_mem_cons.mpr ⟨List.mem_append_right _ (List.mem_append_left _ (List.mem_of_getElem? (i := 209) rfl)), List.forall_mem_cons.mpr ⟨List.mem_append_right _ (List.mem_append_left _ (List.mem_of_getElem? (i := 210) rfl)), List.forall_mem_cons.mpr ⟨List.mem_append_right _ (List.mem_append_left _ (List.mem_of_getElem? (i := 212) rfl)), List.forall_mem_cons.mpr ⟨List.mem_append_right _ (List.mem_append_left _ (List.mem_of_getElem? (i := 213) rfl)), List.forall_mem_cons.mpr ⟨List.mem_append_right _ (List.mem_append_left _ (List.mem_of_getElem? (i := 215) rfl)), List.forall_mem_cons.mpr ⟨List.mem_append_right _ (List.mem_append_left _ (List.mem_of_getElem? (i := 216) rfl)), List.forall_mem_cons.mpr ⟨List.mem_append_right _ (List.mem_append_left _ (List.mem_of_getElem? (i := 217) rfl)), List.forall_mem_cons.mpr ⟨List.mem_append_right _ (List.mem_append_left _ (List.mem_of_getElem? (i := 219) rfl)), List.forall_mem_cons.mpr ⟨List.mem_append_right _ (List.mem_append_left _ (List.mem_of_getElem? (i := 220) rfl)), List.forall_mem_cons.mpr ⟨List.mem_append_right _ (List.mem_append_left _ (List.mem_of_getElem? (i := 221) rfl)), List.forall_mem_cons.mpr ⟨List.mem_append_right _ (List.mem_append_left _ (List.mem_of_getElem? (i := 223) rfl)), List.forall_mem_cons.mpr ⟨List.mem_append_right _ (List.mem_append_left _ (List.mem_of_getElem? (i := 224) rfl)), fun _ h => absurd h List.not_mem_nil⟩⟩⟩⟩⟩⟩⟩⟩⟩⟩⟩⟩⟩⟩⟩⟩⟩⟩⟩⟩⟩⟩⟩⟩⟩⟩⟩⟩⟩⟩
theorem WW_6_tbl : ∀ w ∈ WW_6, w ∈ lw_tbl := List.forall_mem_cons.mpr ⟨List.mem_append_right _ (List.mem_append_left _ (List.mem_of_getElem? (i := 225) rfl)), List.forall_mem_cons.mpr ⟨List.mem_append_right _ (List.mem_append_left _ (List.mem_of_getElem? (i := 227) rfl)), List.forall_mem_cons.mpr ⟨List.mem_append_right _ (List.mem_append_left _ (List.mem_of_getElem? (i := 228) rfl)), List.forall_mem_cons.mpr ⟨List.mem_append_right _ (List.mem_append_left _ (List.mem_of_getElem? (i := 229) rfl)), List.forall_mem_cons.mpr ⟨List.mem_append_right _ (List.mem_append_left _ (List.mem_of_getElem? (i := 231) rfl)), List.forall_mem_cons.mpr ⟨List.mem_append_right _ (List.mem_append_left _ (List.mem_of_getElem? (i := 232) rfl)), List.forall_mem_cons.mpr ⟨List.mem_append_right _ (List.mem_append_left _ (List.mem_of_getElem? (i := 233) rfl)), List.forall_mem_cons.mpr ⟨List.mem_append_right _ (List.mem_append_left _ (List.mem_of_getElem? (i := 235) rfl)), List.forall_mem_cons.mpr ⟨List.mem_append_right _ (List.mem_append_left _ (List.mem_of_getElem? (i := 236) rfl)), List.forall_mem_cons.mpr ⟨List.mem_append_right _ (List.mem_append_left _ (List.mem_of_getElem? (i := 237) rfl)), List.forall_mem_cons.mpr ⟨List.mem_append_right _ (List.mem_append_left _ (List.mem_of_getElem? (i := 239) rfl)), List.forall_mem_cons.mpr ⟨List.mem_append_right _ (List.mem_append_right _ (List.mem_of_getElem? (i := 0) rfl)), List.forall_mem_cons.mpr ⟨List.mem_append_right _ (List.mem_append_right _ (List.mem_of_getElem? (i := 1) rfl)), List.forall_mem_cons.mpr ⟨List.mem_append_right _ (List.mem_append_right _ (List.mem_of_getElem? (i := 3) rfl)), List.forall_mem_cons.mpr ⟨List.mem_append_right _ (List.mem_append_right _ (List.mem_of_getElem? (i := 4) rfl)), List.forall_mem_cons.mpr ⟨List.mem_append_right _ (List.mem_append_right _ (List.mem_of_getElem? (i := 5) rfl)), List.forall_mem_cons.mpr ⟨List.mem_append_right _ (List.mem_append_right _ (List.mem_of_getElem? (i := 7) rfl)), List.forall_mem_cons.mpr ⟨List.mem_append_right _ (List.mem_append_right _ (List.mem_of_getElem? (i := 8) rfl)), List.forall_mem_cons.mpr ⟨List.mem_append_right _ (List.mem_append_right _ (List.mem_of_getElem? (i := 9) rfl)), fun _ h => absurd h List.not_mem_nil⟩⟩⟩⟩⟩⟩⟩⟩⟩⟩⟩⟩⟩⟩⟩⟩⟩⟩⟩
theorem WW_tbl : ∀ w ∈ WW, w ∈ lw_tbl := by
  intro w h
  unfold WW at h
  simp only [List.mem_append, or_assoc] at h
  rcases h with h | h | h | h | h | h | h
  · exact WW_0_tbl w h
  · exact WW_1_tbl w h
  · exact WW_2_tbl w h
  · exact WW_3_tbl w h
  · exact WW_4_tbl w h
  · exact WW_5_tbl w h
  · exact WW_6_tbl w h
theorem WW_good : ∀ w ∈ WW, (w.onTables && w.keeps) = true ∨ ∃ ty, w = .arrayClass ty := by
  intro w h
  exact good_of_word (List.all_eq_true.mp (show WW.all goodWord = true by decide +kernel) w h)
theorem n_T : ∀ a, a < 4 → ∀ b, b < 4 → a ≠ b → (F_T a).2.1 ≠ (F_T b).2.1 := by decide +kernel
theorem ty_T_ok : ∀ k, k < 4 → parseFieldDescriptor (F_T k).2.2.1 = some (ty_T k) := by decide +kernel
theorem i_T : ∀ w ∈ u_ws R_T F_T 4, w ∈ WW := List.forall_mem_cons.mpr ⟨k_32, List.forall_mem_cons.mpr ⟨k_33, List.forall_mem_cons.mpr ⟨k_34, List.forall_mem_cons.mpr ⟨k_35, fun _ h => absurd h List.not_mem_nil⟩⟩⟩⟩
theorem n_X : ∀ a, a < 9 → ∀ b, b < 9 → a ≠ b → (F_X a).2.1 ≠ (F_X b).2.1 := by decide +kernel
theorem ty_X_ok : ∀ k, k < 9 → parseFieldDescriptor (F_X k).2.2.1 = some (ty_X k) := by decide +kernel
theorem i_X : ∀ w ∈ u_ws R_X F_X 9, w ∈ WW := List.forall_mem_cons.mpr ⟨k_46, List.forall_mem_cons.mpr ⟨k_47, List.forall_mem_cons.mpr ⟨k_48, List.forall_mem_cons.mpr ⟨k_49, List.forall_mem_cons.mpr ⟨k_50, List.forall_mem_cons.mpr ⟨k_51, List.forall_mem_cons.mpr ⟨k_52, List.forall_mem_cons.mpr ⟨k_53, List.forall_mem_cons.mpr ⟨k_54, fun _ h => absurd h List.not_mem_nil⟩⟩⟩⟩⟩⟩⟩⟩⟩
theorem n_M : ∀ a, a < 3 → ∀ b, b < 3 → a ≠ b → (F_M a).2.1 ≠ (F_M b).2.1 := by decide +kernel
theorem ty_M_ok : ∀ k, k < 3 → parseFieldDescriptor (F_M k).2.2.1 = some (ty_M k) := by decide +kernel
theorem i_M : ∀ w ∈ u_ws R_M F_M 3, w ∈ WW := List.forall_mem_cons.mpr ⟨k_142, List.forall_mem_cons.mpr ⟨k_143, List.forall_mem_cons.mpr ⟨k_144, fun _ h => absurd h List.not_mem_nil⟩⟩⟩
abbrev classes : List vw_C := [(R_T, F_T, 4), (R_X, F_X, 9), (R_M, F_M, 3)]
end
section
/-! PURE: a binary tree that lies in two arrays of links (sm, gr; 0 is none), by its list in order; the lists of what is less and of what is more that hang on place 0 -/
section TreeRows
theorem tr_nr {l : List Nat} (h : l.Nodup) : l.reverse.Nodup := by
  unfold List.Nodup at h ⊢
  rw [List.pairwise_reverse]
  exact h.imp (fun q => Ne.symm q)
def tr_n (sm gr : Nat → Nat) : Nat → Nat → List Nat → Prop
  | 0, r, l => r = 0 ∧ l = []
  | n + 1, r, l => (r = 0 ∧ l = []) ∨ (r ≠ 0 ∧ ∃ a b, l = a ++ r :: b ∧ tr_n sm gr n (sm r) a ∧ tr_n sm gr n (gr r) b)
theorem tr_up {sm gr : Nat → Nat} : ∀ (n r : Nat) (l : List Nat), tr_n sm gr n r l → tr_n sm gr (n + 1) r l := by
  intro n
  induction n with
  | zero => intro r l h; exact Or.inl h
  | succ n ih =>
    intro r l h
    rcases h with h | ⟨h0, a, b, e, h1, h2⟩
    · exact Or.inl h
    · exact Or.inr ⟨h0, a, b, e, ih _ _ h1, ih _ _ h2⟩
theorem tr_le {sm gr : Nat → Nat} {n m : Nat} (h : n ≤ m) : ∀ (r : Nat) (l : List Nat), tr_n sm gr n r l → tr_n sm gr m r l := by
  induction h with
  | refl => intro r l h; exact h
  | step _ ih => intro r l h; exact tr_up _ _ _ (ih r l h)
def tr_T (sm gr : Nat → Nat) (r : Nat) (l : List Nat) : Prop := ∃ n, tr_n sm gr n r l
theorem tr_0 {sm gr : Nat → Nat} : tr_T sm gr 0 [] := ⟨0, rfl, rfl⟩
theorem tr_nd {sm gr : Nat → Nat} {r : Nat} {a b : List Nat} (h0 : r ≠ 0) (h1 : tr_T sm gr (sm r) a) (h2 : tr_T sm gr (gr r) b) : tr_T sm gr r (a ++ r :: b) := by
  obtain ⟨n, h1⟩ := h1
  obtain ⟨m, h2⟩ := h2
  exact ⟨max n m + 1, Or.inr ⟨h0, a, b, rfl, tr_le (Nat.le_max_left n m) _ _ h1, tr_le (Nat.le_max_right n m) _ _ h2⟩⟩
theorem tr_inv {sm gr : Nat → Nat} {r : Nat} {l : List Nat} (h : tr_T sm gr r l) : (r = 0 ∧ l = []) ∨ (r ≠ 0 ∧ ∃ a b, l = a ++ r :: b ∧ tr_T sm gr (sm r) a ∧ tr_T sm gr (gr r) b) := by
  obtain ⟨n, h⟩ := h
  cases n with
  | zero => exact Or.inl h
  | succ n =>
    rcases h with h | ⟨h0, a, b, e, h1, h2⟩
    · exact Or.inl h
    · exact Or.inr ⟨h0, a, b, e, ⟨n, h1⟩, ⟨n, h2⟩⟩
theorem tr_inv1 {sm gr : Nat → Nat} {r : Nat} {l : List Nat} (h : tr_T sm gr r l) (h0 : r ≠ 0) : ∃ a b, l = a ++ r :: b ∧ tr_T sm gr (sm r) a ∧ tr_T sm gr (gr r) b := by
  rcases tr_inv h with h | ⟨-, h⟩
  · exact absurd h.1 h0
  · exact h
theorem tr_nil {sm gr : Nat → Nat} {r : Nat} {l : List Nat} (h : tr_T sm gr r l) (h0 : r = 0) : l = [] := by
  rcases tr_inv h with h | ⟨h, -⟩
  · exact h.2
  · exact absurd h0 h
theorem tr_nil' {sm gr : Nat → Nat} {r : Nat} (h : tr_T sm gr r []) : r = 0 := by
  rcases tr_inv h with h | ⟨-, a, b, e, -⟩
  · exact h.1
  · simp at e
theorem tr_mem {sm gr : Nat → Nat} {r : Nat} {l : List Nat} (h : tr_T sm gr r l) : r = 0 ∨ r ∈ l := by
  rcases tr_inv h with h | ⟨-, a, b, e, -⟩
  · exact Or.inl h.1
  · exact Or.inr (by rw [e]; simp)
theorem tr_fr {sm gr sm' gr' : Nat → Nat} : ∀ (n r : Nat) (l : List Nat), tr_n sm gr n r l → (∀ i ∈ l, sm' i = sm i ∧ gr' i = gr i) → tr_n sm' gr' n r l := by
  intro n
  induction n with
  | zero => intro r l h _; exact h
  | succ n ih =>
    intro r l h hf
    rcases h with h | ⟨h0, a, b, e, h1, h2⟩
    · exact Or.inl h
    · subst e
      have hr := hf r (by simp)
      refine Or.inr ⟨h0, a, b, rfl, ?_, ?_⟩
      · rw [hr.1]; exact ih _ _ h1 (fun i hi => hf i (by simp [hi]))
      · rw [hr.2]; exact ih _ _ h2 (fun i hi => hf i (by simp [hi]))
theorem tr_keep {sm gr sm' gr' : Nat → Nat} {r : Nat} {l : List Nat} (h : tr_T sm gr r l) (hf : ∀ i ∈ l, sm' i = sm i ∧ gr' i = gr i) : tr_T sm' gr' r l := by
  obtain ⟨n, h⟩ := h
  exact ⟨n, tr_fr n r l h hf⟩
theorem tr_mir_n {sm gr : Nat → Nat} : ∀ (n r : Nat) (l : List Nat), tr_n sm gr n r l → tr_n gr sm n r l.reverse := by
  intro n
  induction n with
  | zero => intro r l h; exact ⟨h.1, by rw [h.2]; rfl⟩
  | succ n ih =>
    intro r l h
    rcases h with h | ⟨h0, a, b, e, h1, h2⟩
    · exact Or.inl ⟨h.1, by rw [h.2]; rfl⟩
    · exact Or.inr ⟨h0, b.reverse, a.reverse, by rw [e]; simp, ih _ _ h2, ih _ _ h1⟩
theorem tr_mir {sm gr : Nat → Nat} {r : Nat} {l : List Nat} (h : tr_T sm gr r l) : tr_T gr sm r l.reverse := by
  obtain ⟨n, h⟩ := h
  exact ⟨n, tr_mir_n n r l h⟩
theorem tr_mir' {sm gr : Nat → Nat} {r : Nat} {l : List Nat} (h : tr_T gr sm r l.reverse) : tr_T sm gr r l := by
  have := tr_mir h
  rwa [List.reverse_reverse] at this
/-- a spine: the trees of what is less, each hanging on the one before by gr, the first on place 0; la: their list in order -/
def tr_L (sm gr : Nat → Nat) : Nat → Nat → List Nat → Prop
  | 0, low, la => low = 0 ∧ la = []
  | n + 1, low, la => ∃ low' la' a, tr_L sm gr n low' la' ∧ gr low' = low ∧ low ≠ 0 ∧ tr_T sm gr (sm low) a ∧ la = la' ++ (a ++ [low])
theorem tr_L_mem {sm gr : Nat → Nat} {n low : Nat} {la : List Nat} (h : tr_L sm gr n low la) : (low = 0 ∧ la = []) ∨ (low ≠ 0 ∧ low ∈ la) := by
  cases n with
  | zero => exact Or.inl h
  | succ n =>
    obtain ⟨low', la', a, -, -, h0, -, e⟩ := h
    exact Or.inr ⟨h0, by rw [e]; simp⟩
theorem tr_L_keep {sm gr sm' gr' : Nat → Nat} : ∀ (n low : Nat) (la : List Nat), tr_L sm gr n low la → la.Nodup → 0 ∉ la → (∀ i ∈ la, sm' i = sm i) → (∀ i ∈ la, i ≠ low → gr' i = gr i) → (low ≠ 0 → gr' 0 = gr 0) → tr_L sm' gr' n low la := by
  intro n
  induction n with
  | zero => intro low la h _ _ _ _ _; exact h
  | succ n ih =>
    intro low la h hn h0 hs hg hz
    obtain ⟨low', la', a, h1, h2, h3, h4, e⟩ := h
    subst e
    have hn' := List.nodup_append.mp hn
    have hna := List.nodup_append.mp hn'.2.1
    have hlow : ∀ i ∈ la', i ≠ low := fun i hi => hn'.2.2 i hi low (by simp)
    have hlowa : ∀ i ∈ a, i ≠ low := fun i hi => hna.2.2 i hi low (by simp)
    have g1 := hs low (by simp)
    refine ⟨low', la', a, ih low' la' h1 hn'.1 (fun q => h0 (by simp [q])) (fun i hi => hs i (by simp [hi])) (fun i hi _ => hg i (by simp [hi]) (hlow i hi)) (fun _ => hz h3), ?_, h3, ?_, rfl⟩
    · rcases tr_L_mem h1 with ⟨q, -⟩ | ⟨-, q⟩
      · subst q; rw [hz h3]; exact h2
      · rw [hg low' (by simp [q]) (hlow low' q)]; exact h2
    · rw [g1]
      exact tr_keep h4 (fun i hi => ⟨hs i (by simp [hi]), hg i (by simp [hi]) (hlowa i hi)⟩)
theorem tr_L_fill {sm gr : Nat → Nat} : ∀ (n low : Nat) (la x : List Nat), tr_L sm gr n low la → tr_T sm gr (gr low) x → tr_T sm gr (gr 0) (la ++ x) := by
  intro n
  induction n with
  | zero =>
    intro low la x h hx
    obtain ⟨h1, h2⟩ := h
    subst h1; subst h2
    exact hx
  | succ n ih =>
    intro low la x h hx
    obtain ⟨low', la', a, h1, h2, h3, h4, e⟩ := h
    have h5 : tr_T sm gr low (a ++ low :: x) := tr_nd h3 h4 hx
    have h6 := ih low' la' (a ++ low :: x) h1 (by rw [h2]; exact h5)
    rw [e]
    simpa using h6
theorem tr_L_push {sm gr : Nat → Nat} {n low t : Nat} {la a : List Nat} (h : tr_L sm gr n low la) (hn : la.Nodup) (h0 : 0 ∉ la) (ht : t ≠ 0) (ha : tr_T sm gr (sm t) a) (hla : low ∉ a) : tr_L sm (va_up gr low t) (n + 1) t (la ++ (a ++ [t])) := by
  refine ⟨low, la, a, tr_L_keep n low la h hn h0 (fun _ _ => rfl) (fun i _ hi => by simp [va_up, hi]) (fun q => by simp [va_up, Ne.symm q]), by simp [va_up], ht, ?_, rfl⟩
  exact tr_keep ha (fun i hi => ⟨rfl, by
    have : i ≠ low := fun q => hla (q ▸ hi)
    simp [va_up, this]⟩)
/-- in the midst of a lift: the tree at t, and the two spines -/
def tr_J (sm gr : Nat → Nat) (t low high : Nat) (la mid lb : List Nat) : Prop :=
  t ≠ 0 ∧ tr_T sm gr t mid ∧ (∃ n, tr_L sm gr n low la) ∧ (∃ n, tr_L gr sm n high lb.reverse) ∧ (la ++ (mid ++ lb)).Nodup ∧ 0 ∉ la ++ (mid ++ lb)
theorem tr_J_mir {sm gr : Nat → Nat} {t low high : Nat} {la mid lb : List Nat} (h : tr_J sm gr t low high la mid lb) : tr_J gr sm t high low lb.reverse mid.reverse la.reverse := by
  obtain ⟨h1, h2, h3, h4, h5, h6⟩ := h
  refine ⟨h1, tr_mir h2, h4, by rw [List.reverse_reverse]; exact h3, ?_, ?_⟩
  · have e : lb.reverse ++ (mid.reverse ++ la.reverse) = (la ++ (mid ++ lb)).reverse := by simp
    rw [e]
    exact tr_nr h5
  · intro q
    apply h6
    simp at q ⊢
    rcases q with q | q | q <;> simp [q]
theorem tr_J_mir' {sm gr : Nat → Nat} {t low high : Nat} {la mid lb : List Nat} (h : tr_J gr sm t high low lb.reverse mid.reverse la.reverse) : tr_J sm gr t low high la mid lb := by
  have := tr_J_mir h
  rwa [List.reverse_reverse, List.reverse_reverse, List.reverse_reverse] at this
theorem tr_J_at {sm gr : Nat → Nat} {t low high : Nat} {la mid lb : List Nat} (h : tr_J sm gr t low high la mid lb) : t ∈ mid ∧ (sm t = 0 ∨ sm t ∈ mid) ∧ (gr t = 0 ∨ gr t ∈ mid) ∧ (low = 0 ∨ low ∈ la) ∧ (high = 0 ∨ high ∈ lb) := by
  obtain ⟨h1, h2, ⟨n, h3⟩, ⟨m, h4⟩, -, -⟩ := h
  obtain ⟨a, b, e, ha, hb⟩ := tr_inv1 h2 h1
  refine ⟨by rw [e]; simp, ?_, ?_, ?_, ?_⟩
  · rcases tr_mem ha with q | q
    · exact Or.inl q
    · exact Or.inr (by rw [e]; simp [q])
  · rcases tr_mem hb with q | q
    · exact Or.inl q
    · exact Or.inr (by rw [e]; simp [q])
  · rcases tr_L_mem h3 with q | q
    · exact Or.inl q.1
    · exact Or.inr q.2
  · rcases tr_L_mem h4 with q | q
    · exact Or.inl q.1
    · exact Or.inr (by simpa using q.2)
/-- nothing of the spines changes where only the middle does -/
theorem tr_J_mid {sm gr sm' gr' : Nat → Nat} {t t' low high : Nat} {la mid lb : List Nat} (h : tr_J sm gr t low high la mid lb) (ht : t' ≠ 0) (hT : tr_T sm' gr' t' mid) (hf : ∀ i, i ∉ mid → sm' i = sm i ∧ gr' i = gr i) : tr_J sm' gr' t' low high la mid lb := by
  obtain ⟨h1, h2, ⟨n, h3⟩, ⟨m, h4⟩, h5, h6⟩ := h
  have n1 := List.nodup_append.mp h5
  have n2 := List.nodup_append.mp n1.2.1
  have hA : ∀ i ∈ la, i ∉ mid := fun i hi q => n1.2.2 i hi i (by simp [q]) rfl
  have hB : ∀ i ∈ lb, i ∉ mid := fun i hi q => n2.2.2 i q i hi rfl
  have hZ : 0 ∉ mid := fun q => h6 (by simp [q])
  refine ⟨ht, hT, ⟨n, tr_L_keep n low la h3 n1.1 (fun q => h6 (by simp [q])) (fun i hi => (hf i (hA i hi)).1) (fun i hi _ => (hf i (hA i hi)).2) (fun _ => (hf 0 hZ).2)⟩, ⟨m, tr_L_keep m high lb.reverse h4 (tr_nr n2.2.1) (fun q => h6 (by simp at q; simp [q])) (fun i hi => (hf i (hB i (by simpa using hi))).2) (fun i hi _ => (hf i (hB i (by simpa using hi))).1) (fun _ => (hf 0 hZ).1)⟩, h5, h6⟩
/-- a turn to the right at t -/
theorem tr_J_rotR {sm gr : Nat → Nat} {t low high : Nat} {la mid lb : List Nat} (h : tr_J sm gr t low high la mid lb) (h0 : sm t ≠ 0) : tr_J (va_up sm t (gr (sm t))) (va_up gr (sm t) t) (sm t) low high la mid lb := by
  have hJ := h
  obtain ⟨h1, h2, -, -, h5, -⟩ := h
  obtain ⟨a, b, e, ha, hb⟩ := tr_inv1 h2 h1
  obtain ⟨c, d, e2, hc, hd⟩ := tr_inv1 ha h0
  have hm : mid.Nodup := (List.nodup_append.mp (List.nodup_append.mp h5).2.1).1
  generalize hu : sm t = u at *
  subst e2
  subst e
  have n1 := List.nodup_append.mp hm
  have n2 := List.nodup_append.mp n1.1
  have n3 := List.nodup_cons.mp n1.2.1
  have n4 := List.nodup_cons.mp n2.2.1
  have htu : t ≠ u := fun q => n1.2.2 u (by simp) t (by simp) q.symm
  have hut : u ≠ t := Ne.symm htu
  have tc : ∀ i ∈ c, i ≠ t ∧ i ≠ u := fun i hi => ⟨n1.2.2 i (by simp [hi]) t (by simp), n2.2.2 i hi u (by simp)⟩
  have td : ∀ i ∈ d, i ≠ t ∧ i ≠ u := fun i hi => ⟨n1.2.2 i (by simp [hi]) t (by simp), fun q => n4.1 (q ▸ hi)⟩
  have tb : ∀ i ∈ b, i ≠ t ∧ i ≠ u := fun i hi => ⟨fun q => n3.1 (q ▸ hi), fun q => n1.2.2 u (by simp) i (by simp [hi]) q.symm⟩
  have hT : tr_T (va_up sm t (gr u)) (va_up gr u t) t (d ++ t :: b) := by
    refine tr_nd h1 ?_ ?_
    · rw [show va_up sm t (gr u) t = gr u by simp [va_up]]
      exact tr_keep hd (fun i hi => by simp [va_up, td i hi])
    · rw [show va_up gr u t t = gr t by simp [va_up, htu]]
      exact tr_keep hb (fun i hi => by simp [va_up, tb i hi])
  have hU : tr_T (va_up sm t (gr u)) (va_up gr u t) u (c ++ u :: (d ++ t :: b)) := by
    refine tr_nd h0 ?_ ?_
    · rw [show va_up sm t (gr u) u = sm u by simp [va_up, hut]]
      exact tr_keep hc (fun i hi => by simp [va_up, tc i hi])
    · rw [show va_up gr u t u = t by simp [va_up]]
      exact hT
  refine tr_J_mid hJ h0 (by simpa using hU) (fun i hi => ?_)
  have a1 : i ≠ t := fun q => hi (by simp [q])
  have a2 : i ≠ u := fun q => hi (by simp [q])
  simp [va_up, a1, a2]
/-- t, and what is more than it, goes to the right spine -/
theorem tr_J_linkR {sm gr : Nat → Nat} {t low high : Nat} {la a b lb : List Nat} (h : tr_J sm gr t low high la (a ++ t :: b) lb) (ha : tr_T sm gr (sm t) a) (hb : tr_T sm gr (gr t) b) (h0 : sm t ≠ 0) : tr_J (va_up sm high t) gr (sm t) low t la a (t :: (b ++ lb)) := by
  have hat := tr_J_at h
  obtain ⟨h1, h2, ⟨n, h3⟩, ⟨m, h4⟩, h5, h6⟩ := h
  have n1 := List.nodup_append.mp h5
  have n2 := List.nodup_append.mp n1.2.1
  have n3 := List.nodup_append.mp n2.1
  have hz : 0 ∉ a := fun q => h6 (by simp [q])
  have hzb : 0 ∉ b := fun q => h6 (by simp [q])
  have hzl : 0 ∉ la := fun q => h6 (by simp [q])
  have k1 : high ∉ a := by
    rcases hat.2.2.2.2 with q | q
    · rw [q]; exact hz
    · exact fun w => n2.2.2 high (by simp [w]) high q rfl
  have k2 : high ∉ b := by
    rcases hat.2.2.2.2 with q | q
    · rw [q]; exact hzb
    · exact fun w => n2.2.2 high (by simp [w]) high q rfl
  have k3 : high ∉ la := by
    rcases hat.2.2.2.2 with q | q
    · rw [q]; exact hzl
    · exact fun w => n1.2.2 high w high (by simp [q]) rfl
  have e : la ++ (a ++ t :: (b ++ lb)) = la ++ ((a ++ t :: b) ++ lb) := by simp
  refine ⟨h0, tr_keep ha (fun i hi => ⟨by
    have : i ≠ high := fun q => k1 (q ▸ hi)
    simp [va_up, this], rfl⟩), ⟨n, tr_L_keep n low la h3 n1.1 hzl (fun i hi => by
    have : i ≠ high := fun q => k3 (q ▸ hi)
    simp [va_up, this]) (fun _ _ _ => rfl) (fun _ => rfl)⟩, ⟨m + 1, ?_⟩, by rw [e]; exact h5, by rw [e]; exact h6⟩
  have := tr_L_push (t := t) (a := b.reverse) h4 (tr_nr n2.2.1) (fun q => h6 (by simp at q; simp [q])) h1 (tr_mir hb) (by simpa using k2)
  simpa using this
theorem tr_J_rotL {sm gr : Nat → Nat} {t low high : Nat} {la mid lb : List Nat} (h : tr_J sm gr t low high la mid lb) (h0 : gr t ≠ 0) : tr_J (va_up sm (gr t) t) (va_up gr t (sm (gr t))) (gr t) low high la mid lb :=
  tr_J_mir' (tr_J_rotR (tr_J_mir h) h0)
theorem tr_J_linkL {sm gr : Nat → Nat} {t low high : Nat} {la a b lb : List Nat} (h : tr_J sm gr t low high la (a ++ t :: b) lb) (ha : tr_T sm gr (sm t) a) (hb : tr_T sm gr (gr t) b) (h0 : gr t ≠ 0) : tr_J sm (va_up gr low t) (gr t) t high (la ++ (a ++ [t])) b lb := by
  have h1 := tr_J_mir h
  rw [show (a ++ t :: b).reverse = b.reverse ++ t :: a.reverse by simp] at h1
  have h2 := tr_J_linkR h1 (tr_mir hb) (tr_mir ha) h0
  refine tr_J_mir' ?_
  rw [show (la ++ (a ++ [t])).reverse = t :: (a.reverse ++ la.reverse) by simp]
  exact h2
/-- the end of a lift, its left half -/
theorem tr_J_half {sm gr sm1 gr1 : Nat → Nat} {t low high lows : Nat} {la a b lb : List Nat} (h : tr_J sm gr t low high la (a ++ t :: b) lb) (ha : tr_T sm gr (sm t) a) (hl : (low = 0 ∧ gr1 = gr ∧ lows = sm t) ∨ (low ≠ 0 ∧ gr1 = va_up gr low (sm t) ∧ lows = gr1 0)) (hs : ∀ i, i ∉ lb → i ≠ 0 → sm1 i = sm i) : tr_T sm1 gr1 lows (la ++ a) := by
  obtain ⟨h1, h2, ⟨n, h3⟩, ⟨m, h4⟩, h5, h6⟩ := h
  have n1 := List.nodup_append.mp h5
  have n2 := List.nodup_append.mp n1.2.1
  have sA : ∀ i ∈ a, sm1 i = sm i := fun i hi => hs i (fun q => n2.2.2 i (by simp [hi]) i q rfl) (fun q => h6 (by simp [q ▸ hi]))
  have sL : ∀ i ∈ la, sm1 i = sm i := fun i hi => hs i (fun q => n1.2.2 i hi i (by simp [q]) rfl) (fun q => h6 (by simp [q ▸ hi]))
  have mL := tr_L_mem h3
  rcases hl with ⟨e1, e2, e3⟩ | ⟨e1, e2, e3⟩
  · rcases mL with ⟨-, q⟩ | ⟨q, -⟩
    · rw [q, e2, e3]
      exact tr_keep ha (fun i hi => ⟨sA i hi, rfl⟩)
    · exact absurd e1 q
  · have hlow : low ∈ la := by
      rcases mL with ⟨q, -⟩ | ⟨-, q⟩
      · exact absurd q e1
      · exact q
    have hla : ∀ i ∈ a, i ≠ low := fun i hi q => n1.2.2 low hlow i (by simp [hi]) q.symm
    have hk : tr_L sm1 gr1 n low la := tr_L_keep n low la h3 n1.1 (fun q => h6 (by simp [q])) sL (fun i _ hi => by rw [e2]; simp [va_up, hi]) (fun _ => by rw [e2]; simp [va_up, Ne.symm e1])
    rw [e3]
    refine tr_L_fill n low la a hk ?_
    have e5 : gr1 low = sm t := by rw [e2]; simp [va_up]
    rw [e5]
    exact tr_keep ha (fun i hi => ⟨sA i hi, by rw [e2]; simp [va_up, hla i hi]⟩)
theorem tr_J_fin {sm gr sm1 gr1 : Nat → Nat} {t low high lows highs : Nat} {la a b lb : List Nat} (h : tr_J sm gr t low high la (a ++ t :: b) lb) (ha : tr_T sm gr (sm t) a) (hb : tr_T sm gr (gr t) b)
    (hl : (low = 0 ∧ gr1 = gr ∧ lows = sm t) ∨ (low ≠ 0 ∧ gr1 = va_up gr low (sm t) ∧ lows = gr1 0)) (hh : (high = 0 ∧ sm1 = sm ∧ highs = gr t) ∨ (high ≠ 0 ∧ sm1 = va_up sm high (gr t) ∧ highs = sm1 0)) :
    tr_T (va_up sm1 t lows) (va_up gr1 t highs) lows (la ++ a) ∧ tr_T (va_up sm1 t lows) (va_up gr1 t highs) highs (b ++ lb) := by
  have hat := tr_J_at h
  have h5 := h.2.2.2.2.1
  have h6 := h.2.2.2.2.2
  have n1 := List.nodup_append.mp h5
  have n2 := List.nodup_append.mp n1.2.1
  have n3 := List.nodup_append.mp n2.1
  have n4 := List.nodup_cons.mp n3.2.1
  have hs : ∀ i, i ∉ lb → i ≠ 0 → sm1 i = sm i := by
    intro i hi hz
    rcases hh with ⟨-, e, -⟩ | ⟨e0, e, -⟩
    · rw [e]
    · have : i ≠ high := by
        intro q
        rcases hat.2.2.2.2 with w | w
        · exact e0 w
        · exact hi (q ▸ w)
      rw [e]; simp [va_up, this]
  have hg : ∀ i, i ∉ la → i ≠ 0 → gr1 i = gr i := by
    intro i hi hz
    rcases hl with ⟨-, e, -⟩ | ⟨e0, e, -⟩
    · rw [e]
    · have : i ≠ low := by
        intro q
        rcases hat.2.2.2.1 with w | w
        · exact e0 w
        · exact hi (q ▸ w)
      rw [e]; simp [va_up, this]
  have r1 := tr_J_half h ha hl hs
  have h7 := tr_J_mir h
  rw [show (a ++ t :: b).reverse = b.reverse ++ t :: a.reverse by simp] at h7
  have r2 := tr_J_half (sm1 := gr1) (gr1 := sm1) (lows := highs) h7 (tr_mir hb) hh (fun i hi hz => hg i (by simpa using hi) hz)
  rw [show lb.reverse ++ b.reverse = (b ++ lb).reverse by simp] at r2
  have r3 := tr_mir' r2
  refine ⟨tr_keep r1 (fun i hi => ?_), tr_keep r3 (fun i hi => ?_)⟩
  · have : i ≠ t := by
      intro q
      rcases List.mem_append.mp hi with w | w
      · exact n1.2.2 i w t (by simp) q
      · exact n3.2.2 i w t (by simp) q
    simp [va_up, this]
  · have : i ≠ t := by
      intro q
      rcases List.mem_append.mp hi with w | w
      · exact n4.1 (q ▸ w)
      · exact n2.2.2 t (by simp) i w q.symm
    simp [va_up, this]
/-- the loop of a lift for the key k, over the tree with the list l -/
def tr_I (key : Nat → Int32) (k : Int32) (sm0 gr0 : Nat → Nat) (l : List Nat) (sm gr : Nat → Nat) (t low high n : Nat) : Prop :=
  ∃ la mid lb, l = la ++ (mid ++ lb) ∧ mid.length ≤ n ∧ tr_J sm gr t low high la mid lb ∧ (∀ i ∈ la, key i < k) ∧ (∀ i ∈ lb, k < key i) ∧ ∀ i, i ∉ l → i ≠ 0 → sm i = sm0 i ∧ gr i = gr0 i
def tr_P (key : Nat → Int32) (k : Int32) (sm0 gr0 : Nat → Nat) (l : List Nat) (sm gr : Nat → Nat) (r : Nat) : Prop :=
  r ≠ 0 ∧ ∃ a b, l = a ++ r :: b ∧ tr_T sm gr (sm r) a ∧ tr_T sm gr (gr r) b ∧ (key r = k ∨ (k < key r ∧ ∀ i ∈ a, key i < k) ∨ (key r < k ∧ ∀ i ∈ b, k < key i)) ∧ ∀ i, i ∉ l → i ≠ 0 → sm i = sm0 i ∧ gr i = gr0 i
theorem tr_I_at {key : Nat → Int32} {k : Int32} {sm0 gr0 sm gr : Nat → Nat} {l : List Nat} {t low high n : Nat} (h : tr_I key k sm0 gr0 l sm gr t low high n) : t ∈ l ∧ t ≠ 0 ∧ (sm t = 0 ∨ sm t ∈ l) ∧ (gr t = 0 ∨ gr t ∈ l) ∧ (low = 0 ∨ low ∈ l) ∧ (high = 0 ∨ high ∈ l) := by
  obtain ⟨la, mid, lb, e, -, hJ, -⟩ := h
  obtain ⟨a1, a2, a3, a4, a5⟩ := tr_J_at hJ
  subst e
  refine ⟨by simp [a1], hJ.1, ?_, ?_, ?_, ?_⟩
  · rcases a2 with q | q
    · exact Or.inl q
    · exact Or.inr (by simp [q])
  · rcases a3 with q | q
    · exact Or.inl q
    · exact Or.inr (by simp [q])
  · rcases a4 with q | q
    · exact Or.inl q
    · exact Or.inr (by simp [q])
  · rcases a5 with q | q
    · exact Or.inl q
    · exact Or.inr (by simp [q])
theorem tr_I_start {key : Nat → Int32} {k : Int32} {sm gr : Nat → Nat} {l : List Nat} {r : Nat} (h : tr_T sm gr r l) (h0 : r ≠ 0) (hn : l.Nodup) (hz : 0 ∉ l) : tr_I key k sm gr l (va_up sm 0 0) (va_up gr 0 0) r 0 0 l.length := by
  have hk : ∀ i, i ≠ 0 → va_up sm 0 0 i = sm i ∧ va_up gr 0 0 i = gr i := fun i hi => by simp [va_up, hi]
  refine ⟨[], l, [], by simp, Nat.le_refl _, ⟨h0, tr_keep h (fun i hi => hk i (fun q => hz (q ▸ hi))), ⟨0, rfl, rfl⟩, ⟨0, rfl, rfl⟩, by simpa using hn, by simpa using hz⟩, by simp, by simp, fun i _ hi => hk i hi⟩
theorem tr_I_rotR {key : Nat → Int32} {k : Int32} {sm0 gr0 sm gr : Nat → Nat} {l : List Nat} {t low high n : Nat} (h : tr_I key k sm0 gr0 l sm gr t low high n) (h0 : sm t ≠ 0) : tr_I key k sm0 gr0 l (va_up sm t (gr (sm t))) (va_up gr (sm t) t) (sm t) low high n := by
  have ha := tr_I_at h
  obtain ⟨la, mid, lb, e, hm, hJ, h1, h2, h3⟩ := h
  refine ⟨la, mid, lb, e, hm, tr_J_rotR hJ h0, h1, h2, fun i hi hz => ?_⟩
  have a1 : i ≠ t := fun q => hi (q ▸ ha.1)
  have a2 : i ≠ sm t := by
    intro q
    rcases ha.2.2.1 with w | w
    · exact h0 w
    · exact hi (q ▸ w)
  rw [show va_up sm t (gr (sm t)) i = sm i by simp [va_up, a1], show va_up gr (sm t) t i = gr i by simp [va_up, a2]]
  exact h3 i hi hz
theorem tr_I_rotL {key : Nat → Int32} {k : Int32} {sm0 gr0 sm gr : Nat → Nat} {l : List Nat} {t low high n : Nat} (h : tr_I key k sm0 gr0 l sm gr t low high n) (h0 : gr t ≠ 0) : tr_I key k sm0 gr0 l (va_up sm (gr t) t) (va_up gr t (sm (gr t))) (gr t) low high n := by
  have ha := tr_I_at h
  obtain ⟨la, mid, lb, e, hm, hJ, h1, h2, h3⟩ := h
  refine ⟨la, mid, lb, e, hm, tr_J_rotL hJ h0, h1, h2, fun i hi hz => ?_⟩
  have a1 : i ≠ t := fun q => hi (q ▸ ha.1)
  have a2 : i ≠ gr t := by
    intro q
    rcases ha.2.2.2.1 with w | w
    · exact h0 w
    · exact hi (q ▸ w)
  rw [show va_up gr t (sm (gr t)) i = gr i by simp [va_up, a1], show va_up sm (gr t) t i = sm i by simp [va_up, a2]]
  exact h3 i hi hz
def tr_S (key : Nat → Int32) (l : List Nat) : Prop := l.Pairwise (fun i j => key i < key j)
theorem tr_S_at {key : Nat → Int32} {a b : List Nat} {r : Nat} (h : tr_S key (a ++ r :: b)) : (∀ i ∈ a, key i < key r) ∧ (∀ i ∈ b, key r < key i) ∧ (∀ i ∈ a, ∀ j ∈ b, key i < key j) ∧ tr_S key a ∧ tr_S key b := by
  unfold tr_S at h
  obtain ⟨h1, h2, h3⟩ := List.pairwise_append.mp h
  obtain ⟨h4, h5⟩ := List.pairwise_cons.mp h2
  exact ⟨fun i hi => h3 i hi r (by simp), h4, fun i hi j hj => h3 i hi j (by simp [hj]), h1, h5⟩
theorem tr_S_nd {key : Nat → Int32} {l : List Nat} (h : tr_S key l) : l.Nodup := by
  unfold tr_S at h
  exact h.imp (fun {a b} q e => by rw [e] at q; exact absurd q Int32.lt_irrefl)
theorem tr_I_linkR {key : Nat → Int32} {k : Int32} {sm0 gr0 sm gr : Nat → Nat} {l : List Nat} {t low high n : Nat} (hs : tr_S key l) (h : tr_I key k sm0 gr0 l sm gr t low high n) (h0 : sm t ≠ 0) (hk : k < key t) : ∃ n', n' < n ∧ tr_I key k sm0 gr0 l (va_up sm high t) gr (sm t) low t n' := by
  have hat := tr_I_at h
  obtain ⟨la, mid, lb, e, hm, hJ, h1, h2, h3⟩ := h
  obtain ⟨a, b, em, ha, hb⟩ := tr_inv1 hJ.2.1 hJ.1
  subst em
  have e2 : l = (la ++ a) ++ t :: (b ++ lb) := by rw [e]; simp
  have hs2 := hs
  rw [e2] at hs2
  have s1 := tr_S_at hs2
  refine ⟨a.length, by simp at hm; omega, la, a, t :: (b ++ lb), by rw [e]; simp, Nat.le_refl _, tr_J_linkR hJ ha hb h0, h1, ?_, fun i hi hz => ?_⟩
  · intro i hi
    rcases List.mem_cons.mp hi with q | q
    · rw [q]; exact hk
    · exact Int32.lt_trans hk (s1.2.1 i q)
  · have : i ≠ high := by
      intro q
      rcases hat.2.2.2.2.2 with w | w
      · exact hz (q.trans w)
      · exact hi (q ▸ w)
    rw [show va_up sm high t i = sm i by simp [va_up, this]]
    exact h3 i hi hz
theorem tr_I_linkL {key : Nat → Int32} {k : Int32} {sm0 gr0 sm gr : Nat → Nat} {l : List Nat} {t low high n : Nat} (hs : tr_S key l) (h : tr_I key k sm0 gr0 l sm gr t low high n) (h0 : gr t ≠ 0) (hk : key t < k) : ∃ n', n' < n ∧ tr_I key k sm0 gr0 l sm (va_up gr low t) (gr t) t high n' := by
  have hat := tr_I_at h
  obtain ⟨la, mid, lb, e, hm, hJ, h1, h2, h3⟩ := h
  obtain ⟨a, b, em, ha, hb⟩ := tr_inv1 hJ.2.1 hJ.1
  subst em
  have e2 : l = (la ++ a) ++ t :: (b ++ lb) := by rw [e]; simp
  have hs2 := hs
  rw [e2] at hs2
  have s1 := tr_S_at hs2
  refine ⟨b.length, by simp at hm; omega, la ++ (a ++ [t]), b, lb, by rw [e]; simp, Nat.le_refl _, tr_J_linkL hJ ha hb h0, ?_, h2, fun i hi hz => ?_⟩
  · intro i hi
    have hi : i ∈ la ++ a ∨ i = t := by
      simp at hi ⊢
      rcases hi with q | q | q <;> simp [q]
    rcases hi with q | q
    · exact Int32.lt_trans (s1.1 i q) hk
    · rw [q]; exact hk
  · have : i ≠ low := by
      intro q
      rcases hat.2.2.2.2.1 with w | w
      · exact hz (q.trans w)
      · exact hi (q ▸ w)
    rw [show va_up gr low t i = gr i by simp [va_up, this]]
    exact h3 i hi hz
theorem tr_I_fin {key : Nat → Int32} {k : Int32} {sm0 gr0 sm gr sm1 gr1 : Nat → Nat} {l : List Nat} {t low high n lows highs : Nat} (h : tr_I key k sm0 gr0 l sm gr t low high n) (hc : key t = k ∨ (k < key t ∧ sm t = 0) ∨ (key t < k ∧ gr t = 0))
    (hl : (low = 0 ∧ gr1 = gr ∧ lows = sm t) ∨ (low ≠ 0 ∧ gr1 = va_up gr low (sm t) ∧ lows = gr1 0)) (hh : (high = 0 ∧ sm1 = sm ∧ highs = gr t) ∨ (high ≠ 0 ∧ sm1 = va_up sm high (gr t) ∧ highs = sm1 0)) :
    tr_P key k sm0 gr0 l (va_up sm1 t lows) (va_up gr1 t highs) t := by
  have hat := tr_I_at h
  obtain ⟨la, mid, lb, e, hm, hJ, h1, h2, h3⟩ := h
  obtain ⟨a, b, em, ha, hb⟩ := tr_inv1 hJ.2.1 hJ.1
  subst em
  obtain ⟨f1, f2⟩ := tr_J_fin hJ ha hb hl hh
  refine ⟨hJ.1, la ++ a, b ++ lb, by rw [e]; simp, ?_, ?_, ?_, fun i hi hz => ?_⟩
  · rw [show va_up sm1 t lows t = lows by simp [va_up]]
    exact f1
  · rw [show va_up gr1 t highs t = highs by simp [va_up]]
    exact f2
  · rcases hc with q | ⟨q, w⟩ | ⟨q, w⟩
    · exact Or.inl q
    · refine Or.inr (Or.inl ⟨q, ?_⟩)
      rw [tr_nil ha w]
      simpa using h1
    · refine Or.inr (Or.inr ⟨q, ?_⟩)
      rw [tr_nil hb w]
      simpa using h2
  · have it : i ≠ t := fun q => hi (q ▸ hat.1)
    have il : low = 0 ∨ i ≠ low := by
      rcases hat.2.2.2.2.1 with w | w
      · exact Or.inl w
      · exact Or.inr (fun q => hi (q ▸ w))
    have ih : high = 0 ∨ i ≠ high := by
      rcases hat.2.2.2.2.2 with w | w
      · exact Or.inl w
      · exact Or.inr (fun q => hi (q ▸ w))
    have g1 : gr1 i = gr i := by
      rcases hl with ⟨-, e1, -⟩ | ⟨e0, e1, -⟩
      · rw [e1]
      · rcases il with q | q
        · exact absurd q e0
        · rw [e1]; simp [va_up, q]
    have s1 : sm1 i = sm i := by
      rcases hh with ⟨-, e1, -⟩ | ⟨e0, e1, -⟩
      · rw [e1]
      · rcases ih with q | q
        · exact absurd q e0
        · rw [e1]; simp [va_up, q]
    rw [show va_up sm1 t lows i = sm1 i by simp [va_up, it], show va_up gr1 t highs i = gr1 i by simp [va_up, it], s1, g1]
    exact h3 i hi hz
/-- a tree of places 1 .. 4096, its keys in order -/
def tr_K (key : Nat → Int32) (sm gr : Nat → Nat) (r : Nat) (l : List Nat) : Prop := tr_T sm gr r l ∧ tr_S key l ∧ ∀ i ∈ l, 0 < i ∧ i < 4097
theorem tr_K_z {key : Nat → Int32} {sm gr : Nat → Nat} {r : Nat} {l : List Nat} (h : tr_K key sm gr r l) : 0 ∉ l := fun q => absurd (h.2.2 0 q).1 (Nat.lt_irrefl 0)
theorem tr_K_b {key : Nat → Int32} {sm gr : Nat → Nat} {r : Nat} {l : List Nat} (h : tr_K key sm gr r l) : r < 4097 := by
  rcases tr_mem h.1 with q | q
  · omega
  · exact (h.2.2 r q).2
theorem tr_P_K {key : Nat → Int32} {k : Int32} {sm0 gr0 sm gr : Nat → Nat} {l : List Nat} {r0 r : Nat} (h0 : tr_K key sm0 gr0 r0 l) (h : tr_P key k sm0 gr0 l sm gr r) : tr_K key sm gr r l ∧ r ∈ l := by
  obtain ⟨h1, a, b, e, h2, h3, -⟩ := h
  refine ⟨⟨?_, h0.2⟩, by rw [e]; simp⟩
  rw [e]
  exact tr_nd h1 h2 h3
theorem tr_P_not {key : Nat → Int32} {k : Int32} {sm0 gr0 sm gr : Nat → Nat} {l : List Nat} {r : Nat} (hs : tr_S key l) (h : tr_P key k sm0 gr0 l sm gr r) (hk : key r ≠ k) : ∀ i ∈ l, key i ≠ k := by
  obtain ⟨h1, a, b, e, -, -, hc, -⟩ := h
  subst e
  have s := tr_S_at hs
  intro i hi q
  subst q
  rcases List.mem_append.mp hi with w | w
  · rcases hc with c | ⟨c, d⟩ | ⟨c, d⟩
    · exact hk c
    · exact absurd (d i w) Int32.lt_irrefl
    · exact absurd (s.1 i w) (Int32.lt_asymm c)
  · rcases List.mem_cons.mp w with w | w
    · exact hk (by rw [w])
    · rcases hc with c | ⟨c, d⟩ | ⟨c, d⟩
      · exact hk c
      · exact absurd (s.2.1 i w) (Int32.lt_asymm c)
      · exact absurd (d i w) Int32.lt_irrefl
end TreeRows
end
section
/-! PURE: what add and cut do to the tree, behind a lift -/
section TreeOps
theorem tr_S_up {key : Nat → Int32} {l : List Nat} {p : Nat} {k : Int32} (h : tr_S key l) (hp : p ∉ l) : tr_S (va_up key p k) l := by
  unfold tr_S at h ⊢
  refine List.Pairwise.imp_of_mem ?_ h
  intro i j hi hj q
  have a1 : i ≠ p := fun w => hp (w ▸ hi)
  have a2 : j ≠ p := fun w => hp (w ▸ hj)
  simpa [va_up, a1, a2] using q
theorem tr_K_up {key : Nat → Int32} {sm gr : Nat → Nat} {l : List Nat} {r p a b : Nat} {k : Int32} (h : tr_K key sm gr r l) (hp : p ∉ l) : tr_K (va_up key p k) (va_up sm p a) (va_up gr p b) r l := by
  refine ⟨tr_keep h.1 (fun i hi => ?_), tr_S_up h.2.1 hp, h.2.2⟩
  have a1 : i ≠ p := fun w => hp (w ▸ hi)
  simp [va_up, a1]
theorem tr_S_ins {key : Nat → Int32} {a b : List Nat} {p : Nat} (ha : tr_S key a) (hb : tr_S key b) (h1 : ∀ i ∈ a, key i < key p) (h2 : ∀ i ∈ b, key p < key i) : tr_S key (a ++ p :: b) := by
  unfold tr_S at *
  refine List.pairwise_append.mpr ⟨ha, List.pairwise_cons.mpr ⟨h2, hb⟩, fun i hi j hj => ?_⟩
  rcases List.mem_cons.mp hj with q | q
  · rw [q]; exact h1 i hi
  · exact Int32.lt_trans (h1 i hi) (h2 j q)
/-- add where nothing is -/
theorem tr_add0 {key : Nat → Int32} {sm gr : Nat → Nat} {l : List Nat} {p r : Nat} {k : Int32} (h : tr_K key sm gr r l) (hr : r = 0) (hp0 : 0 < p) (hpb : p < 4097) (hp : p ∉ l) : tr_K (va_up key p k) (va_up sm p 0) (va_up gr p 0) p [p] := by
  refine ⟨?_, List.pairwise_singleton _ _, fun i hi => by simp at hi; omega⟩
  have := tr_nd (sm := va_up sm p 0) (gr := va_up gr p 0) (r := p) (a := []) (b := []) (by omega) (by rw [va_up_self]; exact tr_0) (by rw [va_up_self]; exact tr_0)
  simpa using this
/-- add where the root is more -/
theorem tr_add1 {key : Nat → Int32} {sm0 gr0 sm gr : Nat → Nat} {l : List Nat} {p r : Nat} (hK : tr_K key sm gr r l) (h : tr_P key (key p) sm0 gr0 l sm gr r) (hp0 : 0 < p) (hpb : p < 4097) (hp : p ∉ l) (hk : key p < key r) :
    ∃ l', tr_K key (va_up (va_up sm p (sm r)) r 0) (va_up gr p r) p l' ∧ ∀ i, i ∈ l' ↔ i = p ∨ i ∈ l := by
  obtain ⟨h1, a, b, e, h2, h3, hc, -⟩ := h
  subst e
  have s := tr_S_at hK.2.1
  have hn := tr_S_nd hK.2.1
  have n1 := List.nodup_append.mp hn
  have n2 := List.nodup_cons.mp n1.2.1
  have hpr : p ≠ r := fun q => hp (by simp [q])
  have hrp : r ≠ p := Ne.symm hpr
  have aP : ∀ i ∈ a, i ≠ p ∧ i ≠ r := fun i hi => ⟨fun q => hp (by simp [← q, hi]), n1.2.2 i hi r (by simp)⟩
  have bP : ∀ i ∈ b, i ≠ p ∧ i ≠ r := fun i hi => ⟨fun q => hp (by simp [← q, hi]), fun q => n2.1 (q ▸ hi)⟩
  have hA : ∀ i ∈ a, key i < key p := by
    rcases hc with c | ⟨c, d⟩ | ⟨c, d⟩
    · rw [c] at hk; exact absurd hk Int32.lt_irrefl
    · exact d
    · exact absurd c (Int32.lt_asymm hk)
  refine ⟨a ++ p :: (r :: b), ⟨?_, ?_, ?_⟩, ?_⟩
  · refine tr_nd (by omega) ?_ ?_
    · rw [show va_up (va_up sm p (sm r)) r 0 p = sm r by simp [va_up, hpr]]
      exact tr_keep h2 (fun i hi => by simp [va_up, aP i hi])
    · rw [show va_up gr p r p = r by simp [va_up]]
      have := tr_nd (sm := va_up (va_up sm p (sm r)) r 0) (gr := va_up gr p r) (r := r) (a := []) (b := b) h1 (by rw [va_up_self]; exact tr_0) (by
        rw [show va_up gr p r r = gr r by simp [va_up, hrp]]
        exact tr_keep h3 (fun i hi => by simp [va_up, bP i hi]))
      simpa using this
  · refine tr_S_ins s.2.2.2.1 ?_ hA ?_
    · exact List.pairwise_cons.mpr ⟨s.2.1, s.2.2.2.2⟩
    · intro i hi
      rcases List.mem_cons.mp hi with q | q
      · rw [q]; exact hk
      · exact Int32.lt_trans hk (s.2.1 i q)
  · intro i hi
    have hi : i = p ∨ i ∈ a ++ r :: b := by
      simp at hi ⊢
      grind
    rcases hi with q | q
    · omega
    · exact hK.2.2 i q
  · intro i
    simp
    grind
/-- add where the root is less -/
theorem tr_add2 {key : Nat → Int32} {sm0 gr0 sm gr : Nat → Nat} {l : List Nat} {p r : Nat} (hK : tr_K key sm gr r l) (h : tr_P key (key p) sm0 gr0 l sm gr r) (hp0 : 0 < p) (hpb : p < 4097) (hp : p ∉ l) (hk : ¬ key p < key r) (hne : key r ≠ key p) :
    ∃ l', tr_K key (va_up sm p r) (va_up (va_up gr p (gr r)) r 0) p l' ∧ ∀ i, i ∈ l' ↔ i = p ∨ i ∈ l := by
  obtain ⟨h1, a, b, e, h2, h3, hc, -⟩ := h
  subst e
  have hk : key r < key p := Int32.lt_of_le_of_ne (Int32.not_lt.mp hk) hne
  have s := tr_S_at hK.2.1
  have hn := tr_S_nd hK.2.1
  have n1 := List.nodup_append.mp hn
  have n2 := List.nodup_cons.mp n1.2.1
  have hpr : p ≠ r := fun q => hp (by simp [q])
  have hrp : r ≠ p := Ne.symm hpr
  have aP : ∀ i ∈ a, i ≠ p ∧ i ≠ r := fun i hi => ⟨fun q => hp (by simp [← q, hi]), n1.2.2 i hi r (by simp)⟩
  have bP : ∀ i ∈ b, i ≠ p ∧ i ≠ r := fun i hi => ⟨fun q => hp (by simp [← q, hi]), fun q => n2.1 (q ▸ hi)⟩
  have hB : ∀ i ∈ b, key p < key i := by
    rcases hc with c | ⟨c, d⟩ | ⟨c, d⟩
    · exact absurd c hne
    · exact absurd c (Int32.lt_asymm hk)
    · exact d
  refine ⟨(a ++ [r]) ++ p :: b, ⟨?_, ?_, ?_⟩, ?_⟩
  · refine tr_nd (by omega) ?_ ?_
    · rw [show va_up sm p r p = r by simp [va_up]]
      refine tr_nd h1 ?_ ?_
      · rw [show va_up sm p r r = sm r by simp [va_up, hrp]]
        exact tr_keep h2 (fun i hi => by simp [va_up, aP i hi])
      · rw [va_up_self]
        exact tr_0
    · rw [show va_up (va_up gr p (gr r)) r 0 p = gr r by simp [va_up, hpr]]
      exact tr_keep h3 (fun i hi => by simp [va_up, bP i hi])
  · refine tr_S_ins ?_ s.2.2.2.2 ?_ hB
    · exact tr_S_ins s.2.2.2.1 List.Pairwise.nil s.1 (fun i hi => by simp at hi)
    · intro i hi
      have hi : i ∈ a ∨ i = r := by simpa using hi
      rcases hi with q | q
      · exact Int32.lt_trans (s.1 i q) hk
      · rw [q]; exact hk
  · intro i hi
    have hi : i = p ∨ i ∈ a ++ r :: b := by
      simp at hi ⊢
      grind
    rcases hi with q | q
    · omega
    · exact hK.2.2 i q
  · intro i
    simp
    grind
theorem tr_K_root {key : Nat → Int32} {sm gr : Nat → Nat} {l : List Nat} {g : Nat} (h : tr_K key sm gr g l) (h0 : g ≠ 0) : ∃ a b, l = a ++ g :: b ∧ tr_K key sm gr (sm g) a ∧ tr_K key sm gr (gr g) b ∧ (∀ i ∈ a, key i < key g) ∧ (∀ i ∈ a, ∀ j ∈ b, key i < key j) ∧ (∀ i ∈ a, i ∉ b) ∧ g ∉ a ∧ g ∉ b := by
  obtain ⟨a, b, e, ha, hb⟩ := tr_inv1 h.1 h0
  subst e
  have s := tr_S_at h.2.1
  have n1 := List.nodup_append.mp (tr_S_nd h.2.1)
  have n2 := List.nodup_cons.mp n1.2.1
  exact ⟨a, b, rfl, ⟨ha, s.2.2.2.1, fun i hi => h.2.2 i (by simp [hi])⟩, ⟨hb, s.2.2.2.2, fun i hi => h.2.2 i (by simp [hi])⟩, s.1, s.2.2.1, fun i hi q => n1.2.2 i hi i (by simp [q]) rfl, fun q => n1.2.2 g q g (by simp) rfl, n2.1⟩
/-- cut: what was less, lifted, takes what was more -/
theorem tr_cut {key : Nat → Int32} {sm0 gr0 sm gr : Nat → Nat} {a b : List Nat} {g r : Nat} (hKa : tr_K key sm0 gr0 (sm0 g) a) (hKb : tr_K key sm0 gr0 (gr0 g) b) (hA : ∀ i ∈ a, key i < key g) (hAB : ∀ i ∈ a, ∀ j ∈ b, key i < key j) (hD : ∀ i ∈ a, i ∉ b) (h : tr_P key (key g) sm0 gr0 a sm gr r) :
    tr_K key sm (va_up gr r (gr0 g)) r (a ++ b) := by
  obtain ⟨h1, c, d, e, h2, h3, hc, hf⟩ := h
  subst e
  have n1 := List.nodup_append.mp (tr_S_nd hKa.2.1)
  have hd : d = [] := by
    rcases hc with q | ⟨q, -⟩ | ⟨-, q⟩
    · have := hA r (by simp)
      rw [q] at this
      exact absurd this Int32.lt_irrefl
    · exact absurd (hA r (by simp)) (Int32.lt_asymm q)
    · cases d with
      | nil => rfl
      | cons x d => exact absurd (hA x (by simp)) (Int32.lt_asymm (q x (by simp)))
  subst hd
  have hz := tr_K_z hKb
  refine ⟨?_, ?_, ?_⟩
  · have e : (c ++ [r]) ++ b = c ++ r :: b := by simp
    rw [e]
    refine tr_nd h1 ?_ ?_
    · exact tr_keep h2 (fun i hi => ⟨rfl, by
        have : i ≠ r := n1.2.2 i hi r (by simp)
        simp [va_up, this]⟩)
    · rw [va_up_self]
      refine tr_keep hKb.1 (fun i hi => ?_)
      have q1 : i ∉ c ++ [r] := fun q => hD i q hi
      have q2 : i ≠ 0 := fun q => hz (q ▸ hi)
      have q3 : i ≠ r := fun q => q1 (by simp [q])
      have := hf i q1 q2
      exact ⟨this.1, by rw [va_up_ne _ _ q3]; exact this.2⟩
  · exact List.pairwise_append.mpr ⟨hKa.2.1, hKb.2.1, hAB⟩
  · intro i hi
    rcases List.mem_append.mp hi with q | q
    · exact hKa.2.2 i q
    · exact hKb.2.2 i q
end TreeOps
end
section
/-! PURE: the row by links from place to place (0 is none), and the chain of places that are to be had again -/
section RowRows
def rw_h (l : List Nat) : Nat := match l with
  | [] => 0
  | p :: _ => p
def rw_l (l : List Nat) : Nat := rw_h l.reverse
theorem rw_h_c (p : Nat) (l : List Nat) : rw_h (p :: l) = p := rfl
theorem rw_h_a (p : Nat) (l x : List Nat) : rw_h ((p :: l) ++ x) = p := rfl
theorem rw_l_s (p : Nat) (l : List Nat) : rw_l (l ++ [p]) = p := by simp [rw_l, rw_h]
theorem rw_l_1 (p : Nat) : rw_l [p] = p := rfl
theorem rw_l_a (p : Nat) (x l : List Nat) : rw_l (x ++ p :: l) = rw_l (p :: l) := by
  unfold rw_l
  rw [List.reverse_append]
  cases h : (p :: l).reverse with
  | nil => simp at h
  | cons q r => rfl
theorem rw_h_mem (l : List Nat) : (l = [] ∧ rw_h l = 0) ∨ (rw_h l ∈ l) := by
  cases l with
  | nil => exact Or.inl ⟨rfl, rfl⟩
  | cons p l => exact Or.inr (by simp [rw_h])
theorem rw_l_mem (l : List Nat) : (l = [] ∧ rw_l l = 0) ∨ (rw_l l ∈ l) := by
  rcases rw_h_mem l.reverse with ⟨h, q⟩ | h
  · exact Or.inl ⟨by simpa using h, q⟩
  · exact Or.inr (by simpa [rw_l] using h)
theorem rw_h_0 {l : List Nat} (hz : 0 ∉ l) : rw_h l = 0 ↔ l = [] := by
  rcases rw_h_mem l with ⟨h, q⟩ | h
  · exact ⟨fun _ => h, fun _ => q⟩
  · exact ⟨fun e => absurd (e ▸ h) hz, fun e => by rw [e]; rfl⟩
theorem rw_l_0 {l : List Nat} (hz : 0 ∉ l) : rw_l l = 0 ↔ l = [] := by
  rcases rw_l_mem l with ⟨h, q⟩ | h
  · exact ⟨fun _ => h, fun _ => q⟩
  · exact ⟨fun e => absurd (e ▸ h) hz, fun e => by rw [e]; rfl⟩
theorem rw_last {l : List Nat} (h : l ≠ []) : ∃ z, l = z ++ [rw_l l] := by
  have h2 : l.reverse ≠ [] := by simpa using h
  cases e : l.reverse with
  | nil => exact absurd e h2
  | cons p r =>
    refine ⟨r.reverse, ?_⟩
    have : l = (p :: r).reverse := by rw [← e, List.reverse_reverse]
    rw [this]
    simp [rw_l, rw_h]
def rw_D (bf bh : Nat → Nat) (fr bk : Nat) (o : List Nat) : Prop := fr = rw_h o ∧ bk = rw_l o ∧ ∀ x p y, o = x ++ p :: y → bf p = rw_l x ∧ bh p = rw_h y
theorem rw_D_mir {bf bh : Nat → Nat} {fr bk : Nat} {o : List Nat} (h : rw_D bf bh fr bk o) : rw_D bh bf bk fr o.reverse := by
  obtain ⟨h1, h2, h3⟩ := h
  refine ⟨h2, by rw [h1]; unfold rw_l; rw [List.reverse_reverse], fun x p y e => ?_⟩
  have e2 : o = y.reverse ++ p :: x.reverse := by
    rw [← List.reverse_reverse o, e]; simp
  have := h3 _ _ _ e2
  refine ⟨this.2, ?_⟩
  rw [this.1]
  unfold rw_l
  rw [List.reverse_reverse]
theorem rw_D_mir' {bf bh : Nat → Nat} {fr bk : Nat} {o : List Nat} (h : rw_D bh bf bk fr o.reverse) : rw_D bf bh fr bk o := by
  have := rw_D_mir h
  rwa [List.reverse_reverse] at this
theorem rw_D_nil {bf bh : Nat → Nat} : rw_D bf bh 0 0 [] := ⟨rfl, rfl, fun x p y e => by simp at e⟩
theorem rw_D_keep {bf bh bf' bh' : Nat → Nat} {fr bk : Nat} {o : List Nat} (h : rw_D bf bh fr bk o) (hk : ∀ i ∈ o, bf' i = bf i ∧ bh' i = bh i) : rw_D bf' bh' fr bk o := by
  refine ⟨h.1, h.2.1, fun x p y e => ?_⟩
  have a := hk p (by rw [e]; simp)
  rw [a.1, a.2]
  exact h.2.2 x p y e
/-- a place goes out of the row -/
theorem rw_loose {bf bh bf' bh' : Nat → Nat} {fr bk fr' bk' p : Nat} {x y : List Nat} (h : rw_D bf bh fr bk (x ++ p :: y)) (hn : (x ++ p :: y).Nodup) (hz : 0 ∉ x ++ p :: y)
    (h1 : (bf p = 0 ∧ fr' = bh p ∧ bh' = bh) ∨ (bf p ≠ 0 ∧ fr' = fr ∧ bh' = va_up bh (bf p) (bh p))) (h2 : (bh p = 0 ∧ bk' = bf p ∧ bf' = bf) ∨ (bh p ≠ 0 ∧ bk' = bk ∧ bf' = va_up bf (bh p) (bf p))) : rw_D bf' bh' fr' bk' (x ++ y) := by
  obtain ⟨g1, g2, g3⟩ := h
  obtain ⟨ep, eq⟩ := g3 x p y rfl
  have n1 := List.nodup_append.mp hn
  have n2 := List.nodup_cons.mp n1.2.1
  have zx : 0 ∉ x := fun q => hz (by simp [q])
  have zy : 0 ∉ y := fun q => hz (by simp [q])
  rw [ep] at h1 h2
  rw [eq] at h1 h2
  refine ⟨?_, ?_, fun x' q y' e => ?_⟩
  · rcases h1 with ⟨a, b, -⟩ | ⟨a, b, -⟩
    · rw [(rw_l_0 zx).mp a, b]; rfl
    · have : x ≠ [] := fun w => a (by rw [w]; rfl)
      rw [b, g1]
      cases x with
      | nil => exact absurd rfl this
      | cons u x => rfl
  · rcases h2 with ⟨a, b, -⟩ | ⟨a, b, -⟩
    · rw [(rw_h_0 zy).mp a, b]; simp
    · have : y ≠ [] := fun w => a (by rw [w]; rfl)
      rw [b, g2]
      cases y with
      | nil => exact absurd rfl this
      | cons u y =>
        rw [rw_l_a u x y, show x ++ p :: u :: y = (x ++ [p]) ++ u :: y by simp, rw_l_a u (x ++ [p]) y]
  · rcases List.append_eq_append_iff.mp e with ⟨z, e1, e2⟩ | ⟨z, e1, e2⟩
    · -- q stands in y
      have w := g3 (x ++ p :: z) q y' (by rw [e2]; simp)
      have hq : q ∈ y := by rw [e2]; simp
      have hql : q ≠ rw_l x := by
        intro c
        rcases rw_l_mem x with ⟨-, d⟩ | d
        · exact zy (by rw [← d, ← c]; exact hq)
        · exact n1.2.2 _ d q (by simp [hq]) c.symm
      have b1 : bh' q = bh q := by
        rcases h1 with ⟨-, -, d⟩ | ⟨-, -, d⟩
        · rw [d]
        · rw [d]; simp [va_up, hql]
      refine ⟨?_, by rw [b1]; exact w.2⟩
      cases z with
      | nil =>
        have e4 : rw_h y = q := by rw [e2]; rfl
        have e5 : x' = x := by rw [e1]; simp
        rcases h2 with ⟨a, -, -⟩ | ⟨a, -, d⟩
        · rw [e4] at a; exact absurd (a ▸ hq) zy
        · rw [d, e4, e5]; simp [va_up]
      | cons u z =>
        have hne : q ≠ rw_h y := by
          rw [e2]
          intro c
          have c : q = u := c
          have := n2.2
          rw [e2] at this
          have := (List.nodup_cons.mp this).1
          exact this (by simp [c])
        have b2 : bf' q = bf q := by
          rcases h2 with ⟨-, -, d⟩ | ⟨-, -, d⟩
          · rw [d]
          · rw [d]; simp [va_up, hne]
        rw [b2, w.1, e1, rw_l_a u x z, show x ++ p :: u :: z = (x ++ [p]) ++ u :: z by simp, rw_l_a u (x ++ [p]) z]
    · cases z with
      | nil =>
        -- x = x', y = q :: y'
        have e5 : x' = x := by rw [e1]; simp
        have e6 : y = q :: y' := by simpa using e2.symm
        have w := g3 (x ++ [p]) q y' (by rw [e6]; simp)
        have hq : q ∈ y := by rw [e6]; simp
        have hql : q ≠ rw_l x := by
          intro c
          rcases rw_l_mem x with ⟨-, d⟩ | d
          · exact zy (by rw [← d, ← c]; exact hq)
          · exact n1.2.2 _ d q (by simp [hq]) c.symm
        have b1 : bh' q = bh q := by
          rcases h1 with ⟨-, -, d⟩ | ⟨-, -, d⟩
          · rw [d]
          · rw [d]; simp [va_up, hql]
        refine ⟨?_, by rw [b1]; exact w.2⟩
        have e4 : rw_h y = q := by rw [e6]; rfl
        rcases h2 with ⟨a, -, -⟩ | ⟨a, -, d⟩
        · rw [e4] at a; exact absurd (a ▸ hq) zy
        · rw [d, e4, e5]; simp [va_up]
      | cons u z =>
        -- q stands in x
        have e7 : u = q ∧ y' = z ++ y := by
          have := List.cons.inj e2
          exact ⟨this.1.symm, this.2⟩
        obtain ⟨e8, e9⟩ := e7
        subst e8
        have w := g3 x' u (z ++ p :: y) (by rw [e1]; simp)
        have hq : u ∈ x := by rw [e1]; simp
        have hqh : u ≠ rw_h y := by
          intro c
          rcases rw_h_mem y with ⟨-, d⟩ | d
          · exact zx (by rw [← d, ← c]; exact hq)
          · exact n1.2.2 u hq _ (by simp [d]) c
        have b2 : bf' u = bf u := by
          rcases h2 with ⟨-, -, d⟩ | ⟨-, -, d⟩
          · rw [d]
          · rw [d]; simp [va_up, hqh]
        refine ⟨by rw [b2]; exact w.1, ?_⟩
        cases z with
        | nil =>
          have e4 : rw_l x = u := by rw [e1]; exact rw_l_s u x'
          rcases h1 with ⟨a, -, -⟩ | ⟨a, -, d⟩
          · rw [e4] at a; exact absurd (a ▸ hq) zx
          · rw [d, e4, e9]; simp [va_up]
        | cons v z =>
          have hne : u ≠ rw_l x := by
            rw [e1, show x' ++ u :: v :: z = (x' ++ [u]) ++ v :: z by simp, rw_l_a v (x' ++ [u]) z]
            intro c
            have m : rw_l (v :: z) ∈ v :: z := by
              rcases rw_l_mem (v :: z) with ⟨d, -⟩ | d
              · simp at d
              · exact d
            have := n1.1
            rw [e1] at this
            have := (List.nodup_cons.mp (List.nodup_append.mp this).2.1).1
            exact this (c ▸ m)
          have b1 : bh' u = bh u := by
            rcases h1 with ⟨-, -, d⟩ | ⟨-, -, d⟩
            · rw [d]
            · rw [d]; simp [va_up, hne]
          rw [b1, w.2, e9]
          rfl
/-- a place comes to the front of the row -/
theorem rw_first {bf bh bf' : Nat → Nat} {fr bk bk' p : Nat} {o : List Nat} (h : rw_D bf bh fr bk o) (hn : o.Nodup) (hz : 0 ∉ o) (hp : p ∉ o) (hp0 : p ≠ 0)
    (h1 : (fr = 0 ∧ bf' = va_up bf p 0) ∨ (fr ≠ 0 ∧ bf' = va_up (va_up bf p 0) fr p)) (h2 : (bk = 0 ∧ bk' = p) ∨ (bk ≠ 0 ∧ bk' = bk)) : rw_D bf' (va_up bh p fr) p bk' (p :: o) := by
  obtain ⟨g1, g2, g3⟩ := h
  refine ⟨rfl, ?_, fun x q y e => ?_⟩
  · rcases h2 with ⟨a, b⟩ | ⟨a, b⟩
    · rw [g2] at a
      rw [(rw_l_0 hz).mp a, b]; rfl
    · have : o ≠ [] := fun w => a (by rw [g2, w]; rfl)
      rw [b, g2]
      cases o with
      | nil => exact absurd rfl this
      | cons u o => exact (rw_l_a u [p] o).symm
  · have hpf : p ≠ fr := by
      intro c
      rcases rw_h_mem o with ⟨-, d⟩ | d
      · exact hp0 (by rw [c, g1, d])
      · exact hp (by rw [c, g1]; exact d)
    cases x with
    | nil =>
      have e1 := List.cons.inj e
      rw [← e1.1, ← e1.2]
      refine ⟨?_, by rw [va_up_self]; exact g1⟩
      rcases h1 with ⟨-, d⟩ | ⟨-, d⟩
      · rw [d, va_up_self]; rfl
      · rw [d, va_up_ne _ _ hpf, va_up_self]; rfl
    | cons u x =>
      have e1 := List.cons.inj e
      have e2 := e1.2
      have w := g3 x q y e2
      have hq : q ∈ o := by rw [e2]; simp
      have hqp : q ≠ p := fun c => hp (c ▸ hq)
      refine ⟨?_, by rw [va_up_ne _ _ hqp]; exact w.2⟩
      rw [← e1.1]
      cases x with
      | nil =>
        have e4 : fr = q := by rw [g1, e2]; rfl
        rcases h1 with ⟨a, -⟩ | ⟨-, d⟩
        · rw [e4] at a; exact absurd (a ▸ hq) hz
        · rw [d, e4, va_up_self]; rfl
      | cons v x =>
        have hne : q ≠ fr := by
          rw [g1, e2]
          intro c
          have c : q = v := c
          have := hn
          rw [e2] at this
          have := (List.nodup_cons.mp this).1
          exact this (by simp [c])
        have : bf' q = bf q := by
          rcases h1 with ⟨-, d⟩ | ⟨-, d⟩
          · rw [d, va_up_ne _ _ hqp]
          · rw [d, va_up_ne _ _ hne, va_up_ne _ _ hqp]
        rw [this, w.1]
        exact (rw_l_a v [p] x).symm
/-- a place comes to the end of the row -/
theorem rw_end {bf bh bh' : Nat → Nat} {fr bk fr' p : Nat} {o : List Nat} (h : rw_D bf bh fr bk o) (hn : o.Nodup) (hz : 0 ∉ o) (hp : p ∉ o) (hp0 : p ≠ 0)
    (h1 : (bk = 0 ∧ bh' = va_up bh p 0) ∨ (bk ≠ 0 ∧ bh' = va_up (va_up bh p 0) bk p)) (h2 : (fr = 0 ∧ fr' = p) ∨ (fr ≠ 0 ∧ fr' = fr)) : rw_D (va_up bf p bk) bh' fr' p (o ++ [p]) := by
  refine rw_D_mir' ?_
  rw [show (o ++ [p]).reverse = p :: o.reverse by simp]
  exact rw_first (rw_D_mir h) (tr_nr hn) (by simpa using hz) (by simpa using hp) hp0 h1 h2
/-- the chain of places to be had again, by bh -/
def rw_F (bh : Nat → Nat) : Nat → List Nat → Prop
  | fe, [] => fe = 0
  | fe, p :: fl => fe = p ∧ rw_F bh (bh p) fl
theorem rw_F_keep {bh bh' : Nat → Nat} : ∀ (fl : List Nat) (fe : Nat), rw_F bh fe fl → (∀ i ∈ fl, bh' i = bh i) → rw_F bh' fe fl := by
  intro fl
  induction fl with
  | nil => intro fe h _; exact h
  | cons p fl ih =>
    intro fe h hk
    refine ⟨h.1, ?_⟩
    rw [hk p (by simp)]
    exact ih _ h.2 (fun i hi => hk i (by simp [hi]))
theorem rw_F_push {bh : Nat → Nat} {fl : List Nat} {fe p : Nat} (h : rw_F bh fe fl) (hp : p ∉ fl) : rw_F (va_up bh p fe) p (p :: fl) := by
  refine ⟨rfl, ?_⟩
  rw [va_up_self]
  exact rw_F_keep fl fe h (fun i hi => by
    have : i ≠ p := fun q => hp (q ▸ hi)
    simp [va_up, this])
end RowRows
end
section
/-! PURE: the map as a list of pairs; what each call answers and leaves; the reference's two arrays as such a list -/
section SpecRows
def sp_get (k : Int32) : List (Int32 × Int32) → Int32
  | [] => 0
  | q :: M => if q.1 = k then q.2 else sp_get k M
def sp_rm (k : Int32) : List (Int32 × Int32) → List (Int32 × Int32)
  | [] => []
  | q :: M => if q.1 = k then M else q :: sp_rm k M
def sp_set (k v : Int32) : List (Int32 × Int32) → List (Int32 × Int32)
  | [] => [(k, v)]
  | q :: M => if q.1 = k then (k, v) :: M else q :: sp_set k v M
def sp_no (k : Int32) (M : List (Int32 × Int32)) : Prop := ∀ q ∈ M, q.1 ≠ k
theorem sp_no_nil (k : Int32) : sp_no k [] := fun q h => by simp at h
theorem sp_no_cons {k : Int32} {q : Int32 × Int32} {M : List (Int32 × Int32)} (h : sp_no k (q :: M)) : q.1 ≠ k ∧ sp_no k M := ⟨h q (by simp), fun z hz => h z (by simp [hz])⟩
theorem sp_no_app {k : Int32} {A B : List (Int32 × Int32)} (h : sp_no k (A ++ B)) : sp_no k A ∧ sp_no k B := ⟨fun z hz => h z (by simp [hz]), fun z hz => h z (by simp [hz])⟩
theorem sp_out {k : Int32} : ∀ (M : List (Int32 × Int32)), sp_no k M → sp_get k M = 0 ∧ sp_rm k M = M ∧ ∀ v, sp_set k v M = M ++ [(k, v)] := by
  intro M
  induction M with
  | nil => intro _; exact ⟨rfl, rfl, fun _ => rfl⟩
  | cons q M ih =>
    intro h
    obtain ⟨h1, h2⟩ := sp_no_cons h
    obtain ⟨i1, i2, i3⟩ := ih h2
    refine ⟨?_, ?_, fun v => ?_⟩
    · simp [sp_get, h1, i1]
    · simp [sp_rm, h1, i2]
    · simp [sp_set, h1, i3 v]
theorem sp_at {k w : Int32} (Y : List (Int32 × Int32)) : ∀ (X : List (Int32 × Int32)), sp_no k X → sp_get k (X ++ (k, w) :: Y) = w ∧ sp_rm k (X ++ (k, w) :: Y) = X ++ Y ∧ ∀ v, sp_set k v (X ++ (k, w) :: Y) = X ++ (k, v) :: Y := by
  intro X
  induction X with
  | nil => intro _; exact ⟨by simp [sp_get], by simp [sp_rm], fun v => by simp [sp_set]⟩
  | cons q X ih =>
    intro h
    obtain ⟨h1, h2⟩ := sp_no_cons h
    obtain ⟨i1, i2, i3⟩ := ih h2
    refine ⟨?_, ?_, fun v => ?_⟩
    · simp [sp_get, h1, i1]
    · simp [sp_rm, h1, i2]
    · simp [sp_set, h1, i3 v]
/-- a move to the front or to the end; what a touch leaves -/
def sp_mv (f : Int32) (q : Int32 × Int32) (M : List (Int32 × Int32)) : List (Int32 × Int32) := if f = 0 then M ++ [q] else q :: M
def sp_has (k : Int32) : List (Int32 × Int32) → Bool
  | [] => false
  | q :: M => if q.1 = k then true else sp_has k M
theorem sp_has_no {k : Int32} : ∀ (M : List (Int32 × Int32)), sp_no k M → sp_has k M = false := by
  intro M
  induction M with
  | nil => intro _; rfl
  | cons q M ih =>
    intro h
    obtain ⟨h1, h2⟩ := sp_no_cons h
    simp [sp_has, h1, ih h2]
theorem sp_has_at {k w : Int32} (Y : List (Int32 × Int32)) : ∀ (X : List (Int32 × Int32)), sp_has k (X ++ (k, w) :: Y) = true := by
  intro X
  induction X with
  | nil => simp [sp_has]
  | cons q X ih => by_cases h : q.1 = k <;> simp [sp_has, h, ih]
def sp_tch (f k : Int32) (M : List (Int32 × Int32)) : List (Int32 × Int32) := if sp_has k M = true then sp_mv f (k, sp_get k M) (sp_rm k M) else M
def sp_fk (M : List (Int32 × Int32)) : Int32 := match M with
  | [] => 0
  | q :: _ => q.1
def sp_fv (M : List (Int32 × Int32)) : Int32 := match M with
  | [] => 0
  | q :: _ => q.2
def sp_lk (M : List (Int32 × Int32)) : Int32 := sp_fk M.reverse
def sp_lv (M : List (Int32 × Int32)) : Int32 := sp_fv M.reverse
theorem sp_lk_s (q : Int32 × Int32) (M : List (Int32 × Int32)) : sp_lk (M ++ [q]) = q.1 := by simp [sp_lk, sp_fk]
theorem sp_lv_s (q : Int32 × Int32) (M : List (Int32 × Int32)) : sp_lv (M ++ [q]) = q.2 := by simp [sp_lv, sp_fv]
/-- the reference: n pairs from place i on -/
def ml_L (ks vs : Nat → Int32) : Nat → Nat → List (Int32 × Int32)
  | _, 0 => []
  | i, n + 1 => (ks i, vs i) :: ml_L ks vs (i + 1) n
theorem ml_len (ks vs : Nat → Int32) : ∀ (n i : Nat), (ml_L ks vs i n).length = n := by
  intro n
  induction n with
  | zero => intro i; rfl
  | succ n ih => intro i; simp [ml_L, ih]
theorem ml_add (ks vs : Nat → Int32) : ∀ (a i b : Nat), ml_L ks vs i (a + b) = ml_L ks vs i a ++ ml_L ks vs (i + a) b := by
  intro a
  induction a with
  | zero => intro i b; simp [ml_L]
  | succ a ih =>
    intro i b
    rw [show a + 1 + b = (a + b) + 1 by omega]
    simp only [ml_L, List.cons_append]
    rw [ih, show i + 1 + a = i + (a + 1) by omega]
theorem ml_eq {ks vs ks' vs' : Nat → Int32} : ∀ (n i i' : Nat), (∀ j, j < n → ks (i + j) = ks' (i' + j) ∧ vs (i + j) = vs' (i' + j)) → ml_L ks vs i n = ml_L ks' vs' i' n := by
  intro n
  induction n with
  | zero => intro i i' _; rfl
  | succ n ih =>
    intro i i' h
    have h0 := h 0 (by omega)
    simp only [Nat.add_zero] at h0
    simp only [ml_L]
    rw [h0.1, h0.2, ih (i + 1) (i' + 1) (fun j hj => by
      have := h (j + 1) (by omega)
      rw [show i + 1 + j = i + (j + 1) by omega, show i' + 1 + j = i' + (j + 1) by omega]
      exact this)]
theorem ml_at (ks vs : Nat → Int32) {i n : Nat} (h : i < n) : ml_L ks vs 0 n = ml_L ks vs 0 i ++ (ks i, vs i) :: ml_L ks vs (i + 1) (n - 1 - i) := by
  have e : n = i + ((n - 1 - i) + 1) := by omega
  conv => lhs; rw [e]
  rw [ml_add]
  simp [ml_L]
theorem ml_no {ks vs : Nat → Int32} {k : Int32} : ∀ (n i : Nat), (∀ j, j < n → ks (i + j) ≠ k) → sp_no k (ml_L ks vs i n) := by
  intro n
  induction n with
  | zero => intro i _; exact sp_no_nil k
  | succ n ih =>
    intro i h q hq
    rcases List.mem_cons.mp hq with w | w
    · rw [w]; have := h 0 (by omega); simpa using this
    · exact ih (i + 1) (fun j hj => by
        have := h (j + 1) (by omega)
        rw [show i + 1 + j = i + (j + 1) by omega]
        exact this) q w
theorem ml_cut {ks vs ks' vs' : Nat → Int32} {i n : Nat} (h : i < n) (hk : ∀ j, j < n - 1 → ks' j = (if i ≤ j then ks (j + 1) else ks j) ∧ vs' j = (if i ≤ j then vs (j + 1) else vs j)) : ml_L ks' vs' 0 (n - 1) = ml_L ks vs 0 i ++ ml_L ks vs (i + 1) (n - 1 - i) := by
  have e : n - 1 = i + (n - 1 - i) := by omega
  conv => lhs; rw [e]
  rw [ml_add]
  congr 1
  · refine ml_eq i 0 0 (fun j hj => ?_)
    have := hk j (by omega)
    simp only [Nat.zero_add]
    rw [this.1, this.2]
    have q : ¬ i ≤ j := by omega
    simp [q]
  · refine ml_eq (n - 1 - i) (0 + i) (i + 1) (fun j hj => ?_)
    have := hk (0 + i + j) (by omega)
    rw [this.1, this.2]
    have q : i ≤ 0 + i + j := by omega
    rw [show i + 1 + j = 0 + i + j + 1 by omega]
    simp [q]
theorem ml_lay {ks vs ks' vs' : Nat → Int32} {i n : Nat} {k v : Int32} (h : i ≤ n) (hk : ∀ j, j < n + 1 → ks' j = (if j = i then k else if i < j then ks (j - 1) else ks j) ∧ vs' j = (if j = i then v else if i < j then vs (j - 1) else vs j)) : ml_L ks' vs' 0 (n + 1) = ml_L ks vs 0 i ++ (k, v) :: ml_L ks vs i (n - i) := by
  have e : n + 1 = i + ((n - i) + 1) := by omega
  conv => lhs; rw [e]
  rw [ml_add]
  congr 1
  · refine ml_eq i 0 0 (fun j hj => ?_)
    have := hk j (by omega)
    simp only [Nat.zero_add]
    rw [this.1, this.2]
    have q : ¬ j = i := by omega
    have q2 : ¬ i < j := by omega
    simp [q, q2]
  · simp only [ml_L]
    have h0 := hk (0 + i) (by omega)
    rw [h0.1, h0.2]
    congr 1
    · simp
    · refine ml_eq (n - i) (0 + i + 1) i (fun j hj => ?_)
      have := hk (0 + i + 1 + j) (by omega)
      have q : ¬ 0 + i + 1 + j = i := by omega
      have q2 : i < 0 + i + 1 + j := by omega
      have e3 : 0 + i + 1 + j - 1 = i + j := by omega
      rw [this.1, this.2, if_neg q, if_pos q2, if_neg q, if_pos q2, e3]
      exact ⟨rfl, rfl⟩
/-- the reference's place of a key -/
def ml_P (ks : Nat → Int32) (k : Int32) (n i : Nat) : Prop := i ≤ n ∧ (∀ j, j < i → ks j ≠ k) ∧ (i < n → ks i = k)
theorem ml_P_no {ks vs : Nat → Int32} {k : Int32} {n i : Nat} (h : ml_P ks k n i) (hi : ¬ i < n) : sp_no k (ml_L ks vs 0 n) := by
  have e : i = n := by have := h.1; omega
  refine ml_no n 0 (fun j hj => ?_)
  rw [Nat.zero_add]
  exact h.2.1 j (by omega)
theorem ml_P_at {ks vs : Nat → Int32} {k : Int32} {n i : Nat} (h : ml_P ks k n i) (hi : i < n) : ml_L ks vs 0 n = ml_L ks vs 0 i ++ (k, vs i) :: ml_L ks vs (i + 1) (n - 1 - i) ∧ sp_no k (ml_L ks vs 0 i) := by
  refine ⟨?_, ml_no i 0 (fun j hj => by rw [Nat.zero_add]; exact h.2.1 j hj)⟩
  have := ml_at ks vs hi
  rw [h.2.2 hi] at this
  exact this
end SpecRows
end
section
/-! ROWS OF THIS CLAIM: contracts of one form, calls, fields, arrays of places -/
def xm_I (l : Launch) (D : va_G) (cA : ClassId) (y : MethodName) (bytes : ByteArray) (maxL : Nat) (rm : Room) (av : List Value) (wc : va_W) (hz : Nat) {S : Type} (post : Int32 → S → Prop) (cw : S → va_W) : Prop :=
  Met l y (Cond.code y bytes maxL (some .int) :: WW) rm (va_Pc av (fun U => U.heap.size = hz ∧ va_P D classes wc U.heap ∧ va_K D classes [(cA, .int)] U ∧ va_D (fun _ => True) wc)) (va_Qi post (fun u t => va_P D classes (cw u) t.heap ∧ va_K D classes [(cA, .int)] t ∧ va_D (va_A wc hz) (cw u)) (va_A wc hz)) 0 0 (va_A wc hz)
def xm_V (l : Launch) (D : va_G) (cA : ClassId) (y : MethodName) (bytes : ByteArray) (maxL : Nat) (rm : Room) (av : List Value) (wc : va_W) (hz : Nat) {S : Type} (post : S → Prop) (cw : S → va_W) : Prop :=
  Met l y (Cond.code y bytes maxL none :: WW) rm (va_Pc av (fun U => U.heap.size = hz ∧ va_P D classes wc U.heap ∧ va_K D classes [(cA, .int)] U ∧ va_D (fun _ => True) wc)) (va_Qv post (fun u t => va_P D classes (cw u) t.heap ∧ va_K D classes [(cA, .int)] t ∧ va_D (va_A wc hz) (cw u)) (va_A wc hz)) 0 0 (va_A wc hz)
theorem xm_I_of {l : Launch} {D : va_G} {cA : ClassId} {y : MethodName} {bytes : ByteArray} {maxL : Nat} {rm : Room} {av : List Value} {wc : va_W} {hz : Nat} {S : Type} {post : Int32 → S → Prop} {cw : S → va_W} (hy : plainName y.cls = true) (hlen : (lg_sl av).length ≤ maxL)
    (body : ∀ (p : Program) (e : Env) (s : State) (m : MethodId) (below : List Frame) (meth : Method) (c : Code) (A : Nat → Prop) (Q : State → Prop) (ls : Array Slot), p.tables.exec = Jvm.exec → c.code = bytes → c.maxLocals = maxL → s.vm.findClass y.cls = some m.cls → (∀ w ∈ Cond.code y bytes maxL (some .int) :: WW, w.before av.toArray s = true) → lv_has ls maxL (lv_args 0 av) → va_P D classes wc s.heap → va_K D classes [(cA, .int)] s → va_D A wc → va_S A s.heap s.heap [] → (∀ q : Nat, s.heap.size ≤ q → A q) →
      (∀ (pc : Nat) (H : Heap) (locs : List Loc) (ls : Array Slot) (r : Int32) (u : S), decode bytes pc = .ok (.ireturn, 1) → post r u → va_P D classes (cw u) H → va_D A (cw u) → va_S A s.heap H locs → W p l e rm s m av.toArray below meth c H locs 0 0 Q (F0 m pc ls [.int r])) →
      W p l e rm s m av.toArray below meth c s.heap [] 0 0 Q (F0 m 0 ls [])) : xm_I l D cA y bytes maxL rm av wc hz post cw := by
  unfold xm_I
  refine Met.ofW (cc := bytes) (maxL := maxL) (ret := some .int) hy rfl ?_
  intro p e s m args below meth c s₁ B hml hv
  obtain ⟨rfl, hsz, hP, hK, hD0⟩ := hv
  have hx := B.exec
  have hb := B.bytes
  have hr := B.returns
  have hts := atoms_spec (ws := Cond.code y bytes maxL (some .int) :: WW) B.pre
  have hown : s.vm.findClass y.cls = some m.cls := findClass_of_methodNamed B.named
  have hlocks := B.notSynchronized
  subst hsz
  have hD := hD0.self (sz := s.heap.size)
  generalize hAe : va_A wc s.heap.size = A at hD ⊢
  have hA : ∀ q : Nat, s.heap.size ≤ q → A q := fun q h => by rw [← hAe]; exact Or.inr h
  have hS : va_S A s.heap s.heap [] := va_S.rf
  have hl := lv_entry av (n := maxL) hlen
  rw [lg_entry_eq]
  generalize (lg_sl av ++ List.replicate (maxL - (lg_sl av).length) Slot.unset).toArray = ls at hl ⊢
  refine body p e s m below meth c A _ ls hx hb hml hown hts hl hP hK hD hS hA ?_
  intro pc H locs ls r u hdg hw hP hD hS
  exact W.iret (v := r) hx hb hr (fun t ht hW => ⟨⟨r, u, rfl, hw, by rw [ht]; exact hP, va_K.moved hW.alike hK, hD⟩, hS.F ht⟩) hS.2.2 hdg
theorem xm_V_of {l : Launch} {D : va_G} {cA : ClassId} {y : MethodName} {bytes : ByteArray} {maxL : Nat} {rm : Room} {av : List Value} {wc : va_W} {hz : Nat} {S : Type} {post : S → Prop} {cw : S → va_W} (hy : plainName y.cls = true) (hlen : (lg_sl av).length ≤ maxL)
    (body : ∀ (p : Program) (e : Env) (s : State) (m : MethodId) (below : List Frame) (meth : Method) (c : Code) (A : Nat → Prop) (Q : State → Prop) (ls : Array Slot), p.tables.exec = Jvm.exec → c.code = bytes → c.maxLocals = maxL → s.vm.findClass y.cls = some m.cls → (∀ w ∈ Cond.code y bytes maxL none :: WW, w.before av.toArray s = true) → lv_has ls maxL (lv_args 0 av) → va_P D classes wc s.heap → va_K D classes [(cA, .int)] s → va_D A wc → va_S A s.heap s.heap [] → (∀ q : Nat, s.heap.size ≤ q → A q) →
      (∀ (pc : Nat) (H : Heap) (locs : List Loc) (ls : Array Slot) (u : S), decode bytes pc = .ok (.return_, 1) → post u → va_P D classes (cw u) H → va_D A (cw u) → va_S A s.heap H locs → W p l e rm s m av.toArray below meth c H locs 0 0 Q (F0 m pc ls [])) →
      W p l e rm s m av.toArray below meth c s.heap [] 0 0 Q (F0 m 0 ls [])) : xm_V l D cA y bytes maxL rm av wc hz post cw := by
  unfold xm_V
  refine Met.ofW (cc := bytes) (maxL := maxL) (ret := none) hy rfl ?_
  intro p e s m args below meth c s₁ B hml hv
  obtain ⟨rfl, hsz, hP, hK, hD0⟩ := hv
  have hx := B.exec
  have hb := B.bytes
  have hr := B.returns
  have hts := atoms_spec (ws := Cond.code y bytes maxL none :: WW) B.pre
  have hown : s.vm.findClass y.cls = some m.cls := findClass_of_methodNamed B.named
  have hlocks := B.notSynchronized
  subst hsz
  have hD := hD0.self (sz := s.heap.size)
  generalize hAe : va_A wc s.heap.size = A at hD ⊢
  have hA : ∀ q : Nat, s.heap.size ≤ q → A q := fun q h => by rw [← hAe]; exact Or.inr h
  have hS : va_S A s.heap s.heap [] := va_S.rf
  have hl := lv_entry av (n := maxL) hlen
  rw [lg_entry_eq]
  generalize (lg_sl av ++ List.replicate (maxL - (lg_sl av).length) Slot.unset).toArray = ls at hl ⊢
  refine body p e s m below meth c A _ ls hx hb hml hown hts hl hP hK hD hS hA ?_
  intro pc H locs ls u hdg hw hP hD hS
  exact W.vret hx hb hr (fun t ht hW => ⟨⟨u, rfl, hw, by rw [ht]; exact hP, va_K.moved hW.alike hK, hD⟩, hS.F ht⟩) hS.2.2 hdg
theorem xc_G {Ts : List Cond} {own : String} {index : Nat} {y : MethodName} {bytes : ByteArray} {maxL : Nat} {ret : Option FieldType} (hsub : ∀ w ∈ WW, w ∈ Ts) (k1 : Cond.methodLink own index y ∈ Ts) (k2 : Cond.instanceMethod y ∈ WW) (k3 : Cond.selects y.cls y y ∈ WW) (k4 : Cond.initialized y.cls ∈ WW) (k5 : Cond.code y bytes maxL ret ∈ WW) : GoodIn Ts (wsV own index y.cls y (Cond.code y bytes maxL ret :: WW)) := by
  intro w hw
  unfold wsV at hw
  simp only [List.cons_append, List.nil_append, List.mem_cons] at hw
  rcases hw with rfl | rfl | rfl | rfl | rfl | hw
  · exact ⟨k1, Or.inl rfl⟩
  · exact ⟨hsub _ k2, Or.inl rfl⟩
  · exact ⟨hsub _ k3, Or.inl rfl⟩
  · exact ⟨hsub _ k4, Or.inl rfl⟩
  · exact ⟨hsub _ k5, Or.inl rfl⟩
  · exact ⟨hsub _ hw, WW_good w hw⟩
section XC
variable {p : Program} {l : Launch} {e : Env} {R : Room} {s : State} {m : MethodId} {args : Array Value} {below : List Frame} {meth : Method} {c : Code} {H : Heap} {locs : List Loc} {cells slots : Nat} {Q : State → Prop}
variable {cc : ByteArray} {pc nL : Nat} {ls : Array Slot} {rest : List Value} {D : va_G} {cA : ClassId} {Ts : List Cond} {own : String} {A : Nat → Prop} {H0 : Heap} {ws wr wc : va_W}
theorem xc_I {y : MethodName} {bytes : ByteArray} {maxL : Nat} {rm : Room} {As : List Value} {b : Nat} {st0 : List Value} {S : Type} {post : Int32 → S → Prop} {cw : S → va_W} {ci : Nat} {fs : List Value} {qc : vw_C} {index n : Nat}
    (hx : p.tables.exec = Jvm.exec) (hb : c.code = cc) (hml : c.maxLocals = nL) (hown : s.vm.findClass own = some m.cls) (hts : ∀ w ∈ Ts, w.before args s = true)
    (hM : xm_I l D cA y bytes maxL rm (.ref b :: As) wc H.size post cw)
    (hG : GoodIn Ts (wsV own index y.cls y (Cond.code y bytes maxL (some .int) :: WW)))
    (hd : y.cls ≠ "java/lang/invoke/MethodHandle" ∧ y.cls ≠ "java/lang/invoke/VarHandle" ∧ (parseMethodDescriptor y.desc).map (fun d => d.parameters.length) = some n)
    (hcl : rm.cells = 0 ∧ rm.slots = 0) (hR : rm.frames + 1 ≤ R.frames ∧ 8 + (maxL + 11) + rm.locals ≤ R.locals)
    (hK : va_K D classes [(cA, .int)] s) (hP : va_P D classes ws H) (hD : va_D A ws) (hS : va_S A H0 H locs) (hA : ∀ q, H0.size ≤ q → A q)
    (isC isR : List Nat) (hC1 : isC.filterMap (fun i => ws[i]?) = wc) (hC2 : isC.map (fun i => ws[i]?) = wc.map some) (hRr : isR.map (fun i => ws[i]?) = wr.map some) (hnC : va_nd isC = true) (hnR : va_nd isR = true) (hdis : ∀ i ∈ isR, i ∉ isC)
    (he : wc[0]? = some (b, .inr (ci, fs))) (hc : classes[ci]? = some qc) (hqc : qc.1 = y.cls)
    (hAs : As.length = n) (hsize : ls.size = nL) (hst : st0 = As.reverse ++ .ref b :: rest) (hW : (rest.map fun v => v.category).sum ≤ 8) (hdg : decode cc pc = .ok (.invokevirtual index, 3)) (hroom : cells ≤ R.cells ∧ slots ≤ R.slots)
    (kk : ∀ (r : Int32) (u : S) (H1 : Heap) (locs1 : List Loc), post r u → va_P D classes (wr ++ cw u) H1 → va_D A (wr ++ cw u) → va_S A H0 H1 locs1 → W p l e R s m args below meth c H1 locs1 cells slots Q (F0 m (pc + 3) ls (.int r :: rest))) :
    W p l e R s m args below meth c H locs cells slots Q (F0 m pc ls st0) := by
  unfold xm_I at hM
  subst hst
  have hPc := hP.sub (ws' := wc) isC hC1
  have hDc := hD.sub (ws' := wc) isC hnC hC2
  have hFc := va_free (wc := wc) hD hS hA isC hC2
  have hrv := va_recv hK hPc hc he
  rw [hqc] at hrv
  refine va_calli (va_runV (As := As) (rest := rest) ⟨hx, hb, hml, hown, hts⟩ hM (cwV n hts hG rfl hcl.1 hcl.2 ⟨rfl, hd⟩ hR) ⟨fun a U g mk q => by obtain ⟨q0, q1, qP, qK, qD⟩ := q; exact ⟨q0, q1, qP, va_K.moved (u := U) (U := U.calling g mk a) (Vm.Alike.refl U.vm) qK, qD⟩, hrv, fun U hU hW => ⟨rfl, by rw [hU], by rw [hU]; exact hPc, va_K.moved hW.alike hK, hDc.weaken (fun _ _ _ _ => trivial)⟩⟩ rfl hAs hsize rfl (lv_room hW) hdg hroom) hS (fun q _ h => hFc q h) hFc (fun r u t H1 locs1 ht hvm hw hB hz1 hk1 hS1 => ?_)
  obtain ⟨hP1, hK1, hD1⟩ := hB
  rw [ht] at hP1
  obtain ⟨hP2, hD2⟩ := va_join (wr := wr) (w1 := cw u) hP hD isC isR hC2 hRr hnR hdis hk1 hFc hP1 hD1
  exact kk r u H1 locs1 hw hP2 hD2 hS1
theorem xc_V {y : MethodName} {bytes : ByteArray} {maxL : Nat} {rm : Room} {As : List Value} {b : Nat} {st0 : List Value} {S : Type} {post : S → Prop} {cw : S → va_W} {ci : Nat} {fs : List Value} {qc : vw_C} {index n : Nat}
    (hx : p.tables.exec = Jvm.exec) (hb : c.code = cc) (hml : c.maxLocals = nL) (hown : s.vm.findClass own = some m.cls) (hts : ∀ w ∈ Ts, w.before args s = true)
    (hM : xm_V l D cA y bytes maxL rm (.ref b :: As) wc H.size post cw)
    (hG : GoodIn Ts (wsV own index y.cls y (Cond.code y bytes maxL none :: WW)))
    (hd : y.cls ≠ "java/lang/invoke/MethodHandle" ∧ y.cls ≠ "java/lang/invoke/VarHandle" ∧ (parseMethodDescriptor y.desc).map (fun d => d.parameters.length) = some n)
    (hcl : rm.cells = 0 ∧ rm.slots = 0) (hR : rm.frames + 1 ≤ R.frames ∧ 8 + (maxL + 11) + rm.locals ≤ R.locals)
    (hK : va_K D classes [(cA, .int)] s) (hP : va_P D classes ws H) (hD : va_D A ws) (hS : va_S A H0 H locs) (hA : ∀ q, H0.size ≤ q → A q)
    (isC isR : List Nat) (hC1 : isC.filterMap (fun i => ws[i]?) = wc) (hC2 : isC.map (fun i => ws[i]?) = wc.map some) (hRr : isR.map (fun i => ws[i]?) = wr.map some) (hnC : va_nd isC = true) (hnR : va_nd isR = true) (hdis : ∀ i ∈ isR, i ∉ isC)
    (he : wc[0]? = some (b, .inr (ci, fs))) (hc : classes[ci]? = some qc) (hqc : qc.1 = y.cls)
    (hAs : As.length = n) (hsize : ls.size = nL) (hst : st0 = As.reverse ++ .ref b :: rest) (hW : (rest.map fun v => v.category).sum ≤ 8) (hdg : decode cc pc = .ok (.invokevirtual index, 3)) (hroom : cells ≤ R.cells ∧ slots ≤ R.slots)
    (kk : ∀ (u : S) (H1 : Heap) (locs1 : List Loc), post u → va_P D classes (wr ++ cw u) H1 → va_D A (wr ++ cw u) → va_S A H0 H1 locs1 → W p l e R s m args below meth c H1 locs1 cells slots Q (F0 m (pc + 3) ls rest)) :
    W p l e R s m args below meth c H locs cells slots Q (F0 m pc ls st0) := by
  unfold xm_V at hM
  subst hst
  have hPc := hP.sub (ws' := wc) isC hC1
  have hDc := hD.sub (ws' := wc) isC hnC hC2
  have hFc := va_free (wc := wc) hD hS hA isC hC2
  have hrv := va_recv hK hPc hc he
  rw [hqc] at hrv
  refine va_callv (va_runV (As := As) (rest := rest) ⟨hx, hb, hml, hown, hts⟩ hM (cwV n hts hG rfl hcl.1 hcl.2 ⟨rfl, hd⟩ hR) ⟨fun a U g mk q => by obtain ⟨q0, q1, qP, qK, qD⟩ := q; exact ⟨q0, q1, qP, va_K.moved (u := U) (U := U.calling g mk a) (Vm.Alike.refl U.vm) qK, qD⟩, hrv, fun U hU hW => ⟨rfl, by rw [hU], by rw [hU]; exact hPc, va_K.moved hW.alike hK, hDc.weaken (fun _ _ _ _ => trivial)⟩⟩ rfl hAs hsize rfl (lv_room hW) hdg hroom) hS (fun q _ h => hFc q h) hFc (fun u t H1 locs1 ht hvm hw hB hz1 hk1 hS1 => ?_)
  obtain ⟨hP1, hK1, hD1⟩ := hB
  rw [ht] at hP1
  obtain ⟨hP2, hD2⟩ := va_join (wr := wr) (w1 := cw u) hP hD isC isR hC2 hRr hnR hdis hk1 hFc hP1 hD1
  exact kk u H1 locs1 hw hP2 hD2 hS1
end XC
section XR
variable {p : Program} {l : Launch} {e : Env} {R : Room} {s : State} {m : MethodId} {args : Array Value} {below : List Frame} {meth : Method} {c : Code} {H : Heap} {locs : List Loc} {cells slots : Nat} {Q : State → Prop}
variable {cc : ByteArray} {pc : Nat} {ls : Array Slot} {rest : List Value} {D : va_G} {cA : ClassId} {c0 : Cond} {own : String} {A : Nat → Prop} {H0 : Heap} {ws : va_W} {a : Nat}
theorem xi_top {x : Int32} (y : Int32) (h : x = y) (k : W p l e R s m args below meth c H locs cells slots Q (F0 m pc ls (.int y :: rest))) : W p l e R s m args below meth c H locs cells slots Q (F0 m pc ls (.int x :: rest)) := by
  rw [h]; exact k
theorem xg_T (hx : p.tables.exec = Jvm.exec) (hb : c.code = cc) (hts : ∀ w ∈ c0 :: WW, w.before args s = true) (hown : s.vm.findClass own = some m.cls) (hK : va_K D classes [(cA, .int)] s) (hP : va_P D classes ws H) (q0 : Nat) {fs : List Value} (he : ws[q0]? = some (a, .inr (0, fs))) (k : Nat) (hk : k < 4) {index : Nat} (hl : Cond.fieldLink own index (F_T k).1 (F_T k).2.1 (F_T k).2.2.1 ∈ WW) {v : Value} (hv : fs[k]? = some v) (hdg : decode cc pc = .ok (.getfield index, 3))
    (kk : W p l e R s m args below meth c H locs cells slots Q (F0 m (pc + 3) ls (v :: rest))) : W p l e R s m args below meth c H locs cells slots Q (F0 m pc ls (.ref a :: rest)) :=
  va_get (C := R_T) (T := F_T) (N := 4) hx hb hts (fun w h => .tail _ (i_T w h)) hown hK hP q0 he rfl k hk (hts _ (.tail _ hl)) (fun _ h9 => h9) hv hdg kk
theorem xg_X (hx : p.tables.exec = Jvm.exec) (hb : c.code = cc) (hts : ∀ w ∈ c0 :: WW, w.before args s = true) (hown : s.vm.findClass own = some m.cls) (hK : va_K D classes [(cA, .int)] s) (hP : va_P D classes ws H) (q0 : Nat) {fs : List Value} (he : ws[q0]? = some (a, .inr (1, fs))) (k : Nat) (hk : k < 9) {index : Nat} (hl : Cond.fieldLink own index (F_X k).1 (F_X k).2.1 (F_X k).2.2.1 ∈ WW) {v : Value} (hv : fs[k]? = some v) (hdg : decode cc pc = .ok (.getfield index, 3))
    (kk : W p l e R s m args below meth c H locs cells slots Q (F0 m (pc + 3) ls (v :: rest))) : W p l e R s m args below meth c H locs cells slots Q (F0 m pc ls (.ref a :: rest)) :=
  va_get (C := R_X) (T := F_X) (N := 9) hx hb hts (fun w h => .tail _ (i_X w h)) hown hK hP q0 he rfl k hk (hts _ (.tail _ hl)) (fun _ h9 => h9) hv hdg kk
theorem xg_M (hx : p.tables.exec = Jvm.exec) (hb : c.code = cc) (hts : ∀ w ∈ c0 :: WW, w.before args s = true) (hown : s.vm.findClass own = some m.cls) (hK : va_K D classes [(cA, .int)] s) (hP : va_P D classes ws H) (q0 : Nat) {fs : List Value} (he : ws[q0]? = some (a, .inr (2, fs))) (k : Nat) (hk : k < 3) {index : Nat} (hl : Cond.fieldLink own index (F_M k).1 (F_M k).2.1 (F_M k).2.2.1 ∈ WW) {v : Value} (hv : fs[k]? = some v) (hdg : decode cc pc = .ok (.getfield index, 3))
    (kk : W p l e R s m args below meth c H locs cells slots Q (F0 m (pc + 3) ls (v :: rest))) : W p l e R s m args below meth c H locs cells slots Q (F0 m pc ls (.ref a :: rest)) :=
  va_get (C := R_M) (T := F_M) (N := 3) hx hb hts (fun w h => .tail _ (i_M w h)) hown hK hP q0 he rfl k hk (hts _ (.tail _ hl)) (fun _ h9 => h9) hv hdg kk
theorem xp_T (hx : p.tables.exec = Jvm.exec) (hb : c.code = cc) (hts : ∀ w ∈ c0 :: WW, w.before args s = true) (hown : s.vm.findClass own = some m.cls) (hK : va_K D classes [(cA, .int)] s) (hP : va_P D classes ws H) (hD : va_D A ws) (hS : va_S A H0 H locs) (q0 : Nat) {fs : List Value} (he : ws[q0]? = some (a, .inr (0, fs))) (k : Nat) (hk : k < 4) {index : Nat} (hl : Cond.fieldLink own index (F_T k).1 (F_T k).2.1 (F_T k).2.2.1 ∈ WW) (v : Value) (hfin : (F_T k).2.2.2 = false) (hn : narrow (ty_T k) v = v) (hfit : fits (ty_T k) v = true) (hlen : k < fs.length) (hdg : decode cc pc = .ok (.putfield index, 3))
    (kk : ∀ (H1 : Heap) (locs1 : List Loc), va_P D classes (ws.set q0 (a, .inr (0, fs.set k v))) H1 → va_D A (ws.set q0 (a, .inr (0, fs.set k v))) → va_S A H0 H1 locs1 → W p l e R s m args below meth c H1 locs1 cells slots Q (F0 m (pc + 3) ls rest)) : W p l e R s m args below meth c H locs cells slots Q (F0 m pc ls (v :: .ref a :: rest)) :=
  va_put (C := R_T) (T := F_T) (N := 4) hx hb hts (fun w h => .tail _ (i_T w h)) ty_T ty_T_ok n_T hown hK hP hD hS q0 he rfl k hk (hts _ (.tail _ hl)) (fun _ h9 => h9) hfin (ty_T_ok k hk) hn hfit hlen hdg kk
theorem xp_X (hx : p.tables.exec = Jvm.exec) (hb : c.code = cc) (hts : ∀ w ∈ c0 :: WW, w.before args s = true) (hown : s.vm.findClass own = some m.cls) (hK : va_K D classes [(cA, .int)] s) (hP : va_P D classes ws H) (hD : va_D A ws) (hS : va_S A H0 H locs) (q0 : Nat) {fs : List Value} (he : ws[q0]? = some (a, .inr (1, fs))) (k : Nat) (hk : k < 9) {index : Nat} (hl : Cond.fieldLink own index (F_X k).1 (F_X k).2.1 (F_X k).2.2.1 ∈ WW) (v : Value) (hfin : (F_X k).2.2.2 = false) (hn : narrow (ty_X k) v = v) (hfit : fits (ty_X k) v = true) (hlen : k < fs.length) (hdg : decode cc pc = .ok (.putfield index, 3))
    (kk : ∀ (H1 : Heap) (locs1 : List Loc), va_P D classes (ws.set q0 (a, .inr (1, fs.set k v))) H1 → va_D A (ws.set q0 (a, .inr (1, fs.set k v))) → va_S A H0 H1 locs1 → W p l e R s m args below meth c H1 locs1 cells slots Q (F0 m (pc + 3) ls rest)) : W p l e R s m args below meth c H locs cells slots Q (F0 m pc ls (v :: .ref a :: rest)) :=
  va_put (C := R_X) (T := F_X) (N := 9) hx hb hts (fun w h => .tail _ (i_X w h)) ty_X ty_X_ok n_X hown hK hP hD hS q0 he rfl k hk (hts _ (.tail _ hl)) (fun _ h9 => h9) hfin (ty_X_ok k hk) hn hfit hlen hdg kk
theorem xp_M (hx : p.tables.exec = Jvm.exec) (hb : c.code = cc) (hts : ∀ w ∈ c0 :: WW, w.before args s = true) (hown : s.vm.findClass own = some m.cls) (hK : va_K D classes [(cA, .int)] s) (hP : va_P D classes ws H) (hD : va_D A ws) (hS : va_S A H0 H locs) (q0 : Nat) {fs : List Value} (he : ws[q0]? = some (a, .inr (2, fs))) (k : Nat) (hk : k < 3) {index : Nat} (hl : Cond.fieldLink own index (F_M k).1 (F_M k).2.1 (F_M k).2.2.1 ∈ WW) (v : Value) (hfin : (F_M k).2.2.2 = false) (hn : narrow (ty_M k) v = v) (hfit : fits (ty_M k) v = true) (hlen : k < fs.length) (hdg : decode cc pc = .ok (.putfield index, 3))
    (kk : ∀ (H1 : Heap) (locs1 : List Loc), va_P D classes (ws.set q0 (a, .inr (2, fs.set k v))) H1 → va_D A (ws.set q0 (a, .inr (2, fs.set k v))) → va_S A H0 H1 locs1 → W p l e R s m args below meth c H1 locs1 cells slots Q (F0 m (pc + 3) ls rest)) : W p l e R s m args below meth c H locs cells slots Q (F0 m pc ls (v :: .ref a :: rest)) :=
  va_put (C := R_M) (T := F_M) (N := 3) hx hb hts (fun w h => .tail _ (i_M w h)) ty_M ty_M_ok n_M hown hK hP hD hS q0 he rfl k hk (hts _ (.tail _ hl)) (fun _ h9 => h9) hfin (ty_M_ok k hk) hn hfit hlen hdg kk
/-- an array of places -/
abbrev fN (f : Nat → Nat) : Nat → Int32 := fun j => nI (f j)
theorem xn_ald (hx : p.tables.exec = Jvm.exec) (hb : c.code = cc) (hK : va_K D classes [(cA, .int)] s) (hP : va_P D classes ws H) (q0 : Nat) {n : Nat} {f : Nat → Nat} (ha : ws[q0]? = some (a, .inl (cA, n, .inl (fN f)))) (i : Nat) (hi : i < n) (hn : n < 2 ^ 31) (hdg : decode cc pc = .ok (.iaload, 1))
    (kk : W p l e R s m args below meth c H locs cells slots Q (F0 m (pc + 1) ls (.int (nI (f i)) :: rest))) : W p l e R s m args below meth c H locs cells slots Q (F0 m pc ls (.int (nI i) :: .ref a :: rest)) := by
  refine va_iald hx hb hK hP q0 0 ha rfl (vp_in_nI hi hn) hdg ?_
  rw [nI_clamp (Nat.lt_trans hi hn)]
  exact kk
theorem xk_ald (hx : p.tables.exec = Jvm.exec) (hb : c.code = cc) (hK : va_K D classes [(cA, .int)] s) (hP : va_P D classes ws H) (q0 : Nat) {n : Nat} {f : Nat → Int32} (ha : ws[q0]? = some (a, .inl (cA, n, .inl f))) (i : Nat) (hi : i < n) (hn : n < 2 ^ 31) (hdg : decode cc pc = .ok (.iaload, 1))
    (kk : W p l e R s m args below meth c H locs cells slots Q (F0 m (pc + 1) ls (.int (f i) :: rest))) : W p l e R s m args below meth c H locs cells slots Q (F0 m pc ls (.int (nI i) :: .ref a :: rest)) := by
  refine va_iald hx hb hK hP q0 0 ha rfl (vp_in_nI hi hn) hdg ?_
  rw [nI_clamp (Nat.lt_trans hi hn)]
  exact kk
theorem xn_upd (f : Nat → Nat) (i x : Nat) : upd (fN f) i (nI x) = fN (va_up f i x) := by
  funext j
  by_cases h : j = i <;> simp [upd, va_up, fN, h]
theorem xn_ast (hx : p.tables.exec = Jvm.exec) (hb : c.code = cc) (hK : va_K D classes [(cA, .int)] s) (hP : va_P D classes ws H) (hD : va_D A ws) (hS : va_S A H0 H locs) (q0 : Nat) {n : Nat} {f : Nat → Nat} (ha : ws[q0]? = some (a, .inl (cA, n, .inl (fN f)))) (i x : Nat) (hi : i < n) (hn : n < 2 ^ 31) (hdg : decode cc pc = .ok (.iastore, 1))
    (kk : ∀ (H1 : Heap) (locs1 : List Loc), va_P D classes (ws.set q0 (a, .inl (cA, n, .inl (fN (va_up f i x))))) H1 → va_D A (ws.set q0 (a, .inl (cA, n, .inl (fN (va_up f i x))))) → va_S A H0 H1 locs1 → W p l e R s m args below meth c H1 locs1 cells slots Q (F0 m (pc + 1) ls rest)) : W p l e R s m args below meth c H locs cells slots Q (F0 m pc ls (.int (nI x) :: .int (nI i) :: .ref a :: rest)) := by
  refine va_iast hx hb hK hP hD hS q0 0 ha rfl (vp_in_nI hi hn) hdg ?_
  rw [nI_clamp (Nat.lt_trans hi hn), xn_upd]
  exact kk
theorem xk_ast (hx : p.tables.exec = Jvm.exec) (hb : c.code = cc) (hK : va_K D classes [(cA, .int)] s) (hP : va_P D classes ws H) (hD : va_D A ws) (hS : va_S A H0 H locs) (q0 : Nat) {n : Nat} {f : Nat → Int32} (ha : ws[q0]? = some (a, .inl (cA, n, .inl f))) (i : Nat) (x : Int32) (hi : i < n) (hn : n < 2 ^ 31) (hdg : decode cc pc = .ok (.iastore, 1))
    (kk : ∀ (H1 : Heap) (locs1 : List Loc), va_P D classes (ws.set q0 (a, .inl (cA, n, .inl (va_up f i x)))) H1 → va_D A (ws.set q0 (a, .inl (cA, n, .inl (va_up f i x)))) → va_S A H0 H1 locs1 → W p l e R s m args below meth c H1 locs1 cells slots Q (F0 m (pc + 1) ls rest)) : W p l e R s m args below meth c H locs cells slots Q (F0 m pc ls (.int x :: .int (nI i) :: .ref a :: rest)) := by
  refine va_iast hx hb hK hP hD hS q0 0 ha rfl (vp_in_nI hi hn) hdg ?_
  rw [nI_clamp (Nat.lt_trans hi hn)]
  exact kk
theorem nI_0i {x : Nat} (h : x < 2 ^ 31) : nI x = 0 ↔ x = 0 := nI_eq (b := 0) h (by decide)
theorem xn_ifeq (hx : p.tables.exec = Jvm.exec) (hb : c.code = cc) (x : Nat) (hx31 : x < 2 ^ 31) {off : Int} {tgt : Nat} (hdg : decode cc pc = .ok (.ifCond .eq off, 3)) (ht : (pc : Int) + off = (tgt : Int))
    (kt : x = 0 → W p l e R s m args below meth c H locs cells slots Q (F0 m tgt ls rest)) (kf : x ≠ 0 → W p l e R s m args below meth c H locs cells slots Q (F0 m (pc + 3) ls rest)) : W p l e R s m args below meth c H locs cells slots Q (F0 m pc ls (.int (nI x) :: rest)) :=
  lv_if_eq hx hb hdg ht (fun q => kt ((nI_0i hx31).mp q)) (fun q => kf (fun w => q ((nI_0i hx31).mpr w)))
theorem xn_ifne (hx : p.tables.exec = Jvm.exec) (hb : c.code = cc) (x : Nat) (hx31 : x < 2 ^ 31) {off : Int} {tgt : Nat} (hdg : decode cc pc = .ok (.ifCond .ne off, 3)) (ht : (pc : Int) + off = (tgt : Int))
    (kt : x ≠ 0 → W p l e R s m args below meth c H locs cells slots Q (F0 m tgt ls rest)) (kf : x = 0 → W p l e R s m args below meth c H locs cells slots Q (F0 m (pc + 3) ls rest)) : W p l e R s m args below meth c H locs cells slots Q (F0 m pc ls (.int (nI x) :: rest)) :=
  lv_if_ne hx hb hdg ht (fun q => kt (fun w => q ((nI_0i hx31).mpr w))) (fun q => kf ((nI_0i hx31).mp q))
theorem xn_ge (hx : p.tables.exec = Jvm.exec) (hb : c.code = cc) (x y : Nat) (hx31 : x < 2 ^ 31) (hy31 : y < 2 ^ 31) {off : Int} {tgt : Nat} (hdg : decode cc pc = .ok (.if_icmp .ge off, 3)) (ht : (pc : Int) + off = (tgt : Int))
    (kt : y ≤ x → W p l e R s m args below meth c H locs cells slots Q (F0 m tgt ls rest)) (kf : x < y → W p l e R s m args below meth c H locs cells slots Q (F0 m (pc + 3) ls rest)) : W p l e R s m args below meth c H locs cells slots Q (F0 m pc ls (.int (nI y) :: .int (nI x) :: rest)) :=
  lv_icmp_ge hx hb hdg ht (fun q => kt ((nI_leI hy31 hx31).mp q)) (fun q => kf (Nat.lt_of_not_le (fun w => q ((nI_leI hy31 hx31).mpr w))))
theorem xn_le (hx : p.tables.exec = Jvm.exec) (hb : c.code = cc) (x y : Nat) (hx31 : x < 2 ^ 31) (hy31 : y < 2 ^ 31) {off : Int} {tgt : Nat} (hdg : decode cc pc = .ok (.if_icmp .le off, 3)) (ht : (pc : Int) + off = (tgt : Int))
    (kt : x ≤ y → W p l e R s m args below meth c H locs cells slots Q (F0 m tgt ls rest)) (kf : y < x → W p l e R s m args below meth c H locs cells slots Q (F0 m (pc + 3) ls rest)) : W p l e R s m args below meth c H locs cells slots Q (F0 m pc ls (.int (nI y) :: .int (nI x) :: rest)) :=
  lv_icmp_le hx hb hdg ht (fun q => kt ((nI_leI hx31 hy31).mp q)) (fun q => kf (Nat.lt_of_not_le (fun w => q ((nI_leI hx31 hy31).mpr w))))
theorem xn_ne (hx : p.tables.exec = Jvm.exec) (hb : c.code = cc) (x y : Nat) (hx31 : x < 2 ^ 31) (hy31 : y < 2 ^ 31) {off : Int} {tgt : Nat} (hdg : decode cc pc = .ok (.if_icmp .ne off, 3)) (ht : (pc : Int) + off = (tgt : Int))
    (kt : x ≠ y → W p l e R s m args below meth c H locs cells slots Q (F0 m tgt ls rest)) (kf : x = y → W p l e R s m args below meth c H locs cells slots Q (F0 m (pc + 3) ls rest)) : W p l e R s m args below meth c H locs cells slots Q (F0 m pc ls (.int (nI y) :: .int (nI x) :: rest)) :=
  lv_icmp_ne hx hb hdg ht (fun q => kt (fun w => q ((nI_eq hx31 hy31).mpr w))) (fun q => kf ((nI_eq hx31 hy31).mp q))
end XR
/-- the cells of the tree, of the row, of the whole, of the reference -/
abbrev ce_T (cA : ClassId) (h qk qs qg : Nat) (key : Nat → Int32) (sm gr : Nat → Nat) (root : Nat) : va_W := [(h, .inr (0, [.ref qk, .ref qs, .ref qg, .int (nI root)])), (qk, .inl (cA, 4097, .inl key)), (qs, .inl (cA, 4097, .inl (fN sm))), (qg, .inl (cA, 4097, .inl (fN gr)))]
abbrev ce_R (cA : ClassId) (hX h qv qb qh : Nat) (vl : Nat → Int32) (bf bh : Nat → Nat) (fr bk n us fe : Nat) : va_W := [(hX, .inr (1, [.ref h, .ref qv, .ref qb, .ref qh, .int (nI fr), .int (nI bk), .int (nI n), .int (nI us), .int (nI fe)])), (qv, .inl (cA, 4097, .inl vl)), (qb, .inl (cA, 4097, .inl (fN bf))), (qh, .inl (cA, 4097, .inl (fN bh)))]
abbrev ce_X (cA : ClassId) (hX h qv qb qh qk qs qg : Nat) (vl : Nat → Int32) (bf bh : Nat → Nat) (fr bk n us fe : Nat) (key : Nat → Int32) (sm gr : Nat → Nat) (root : Nat) : va_W := [(hX, .inr (1, [.ref h, .ref qv, .ref qb, .ref qh, .int (nI fr), .int (nI bk), .int (nI n), .int (nI us), .int (nI fe)])), (qv, .inl (cA, 4097, .inl vl)), (qb, .inl (cA, 4097, .inl (fN bf))), (qh, .inl (cA, 4097, .inl (fN bh))), (h, .inr (0, [.ref qk, .ref qs, .ref qg, .int (nI root)])), (qk, .inl (cA, 4097, .inl key)), (qs, .inl (cA, 4097, .inl (fN sm))), (qg, .inl (cA, 4097, .inl (fN gr)))]
abbrev ce_M (cA : ClassId) (hM a b : Nat) (ks vs : Nat → Int32) (n : Nat) : va_W := [(hM, .inr (2, [.ref a, .ref b, .int (nI n)])), (a, .inl (cA, 4096, .inl ks)), (b, .inl (cA, 4096, .inl vs))]
end
section
/-! DECODE ROWS (printed by gen/base.py) -/
theorem d_M_init_0 : decode b_M_init 0 = .ok (.aload_n 0, 1) := by decide +kernel
theorem d_M_init_1 : decode b_M_init 1 = .ok (.invokespecial 1, 3) := by decide +kernel
theorem d_M_init_4 : decode b_M_init 4 = .ok (.aload_n 0, 1) := by decide +kernel
theorem d_M_init_5 : decode b_M_init 5 = .ok (.sipush 4096, 3) := by decide +kernel
theorem d_M_init_8 : decode b_M_init 8 = .ok (.newarray .int, 2) := by decide +kernel
theorem d_M_init_10 : decode b_M_init 10 = .ok (.putfield 7, 3) := by decide +kernel
theorem d_M_init_13 : decode b_M_init 13 = .ok (.aload_n 0, 1) := by decide +kernel
theorem d_M_init_14 : decode b_M_init 14 = .ok (.sipush 4096, 3) := by decide +kernel
theorem d_M_init_17 : decode b_M_init 17 = .ok (.newarray .int, 2) := by decide +kernel
theorem d_M_init_19 : decode b_M_init 19 = .ok (.putfield 13, 3) := by decide +kernel
theorem d_M_init_22 : decode b_M_init 22 = .ok (.return_, 1) := by decide +kernel
theorem d_M_place_0 : decode b_M_place 0 = .ok (.iconst 0, 1) := by decide +kernel
theorem d_M_place_1 : decode b_M_place 1 = .ok (.istore_n 2, 1) := by decide +kernel
theorem d_M_place_2 : decode b_M_place 2 = .ok (.iload_n 2, 1) := by decide +kernel
theorem d_M_place_3 : decode b_M_place 3 = .ok (.aload_n 0, 1) := by decide +kernel
theorem d_M_place_4 : decode b_M_place 4 = .ok (.getfield 16, 3) := by decide +kernel
theorem d_M_place_7 : decode b_M_place 7 = .ok (.if_icmp .ge 20, 3) := by decide +kernel
theorem d_M_place_10 : decode b_M_place 10 = .ok (.aload_n 0, 1) := by decide +kernel
theorem d_M_place_11 : decode b_M_place 11 = .ok (.getfield 7, 3) := by decide +kernel
theorem d_M_place_14 : decode b_M_place 14 = .ok (.iload_n 2, 1) := by decide +kernel
theorem d_M_place_15 : decode b_M_place 15 = .ok (.iaload, 1) := by decide +kernel
theorem d_M_place_16 : decode b_M_place 16 = .ok (.iload_n 1, 1) := by decide +kernel
theorem d_M_place_17 : decode b_M_place 17 = .ok (.if_icmp .eq 10, 3) := by decide +kernel
theorem d_M_place_20 : decode b_M_place 20 = .ok (.iload_n 2, 1) := by decide +kernel
theorem d_M_place_21 : decode b_M_place 21 = .ok (.iconst 1, 1) := by decide +kernel
theorem d_M_place_22 : decode b_M_place 22 = .ok (.iadd, 1) := by decide +kernel
theorem d_M_place_23 : decode b_M_place 23 = .ok (.istore_n 2, 1) := by decide +kernel
theorem d_M_place_24 : decode b_M_place 24 = .ok (.goto (-22), 3) := by decide +kernel
theorem d_M_place_27 : decode b_M_place 27 = .ok (.iload_n 2, 1) := by decide +kernel
theorem d_M_place_28 : decode b_M_place 28 = .ok (.ireturn, 1) := by decide +kernel
theorem d_M_cut_0 : decode b_M_cut 0 = .ok (.aload_n 0, 1) := by decide +kernel
theorem d_M_cut_1 : decode b_M_cut 1 = .ok (.getfield 13, 3) := by decide +kernel
theorem d_M_cut_4 : decode b_M_cut 4 = .ok (.iload_n 1, 1) := by decide +kernel
theorem d_M_cut_5 : decode b_M_cut 5 = .ok (.iaload, 1) := by decide +kernel
theorem d_M_cut_6 : decode b_M_cut 6 = .ok (.istore_n 2, 1) := by decide +kernel
theorem d_M_cut_7 : decode b_M_cut 7 = .ok (.aload_n 0, 1) := by decide +kernel
theorem d_M_cut_8 : decode b_M_cut 8 = .ok (.aload_n 0, 1) := by decide +kernel
theorem d_M_cut_9 : decode b_M_cut 9 = .ok (.getfield 16, 3) := by decide +kernel
theorem d_M_cut_12 : decode b_M_cut 12 = .ok (.iconst 1, 1) := by decide +kernel
theorem d_M_cut_13 : decode b_M_cut 13 = .ok (.isub, 1) := by decide +kernel
theorem d_M_cut_14 : decode b_M_cut 14 = .ok (.putfield 16, 3) := by decide +kernel
theorem d_M_cut_17 : decode b_M_cut 17 = .ok (.iload_n 1, 1) := by decide +kernel
theorem d_M_cut_18 : decode b_M_cut 18 = .ok (.istore_n 3, 1) := by decide +kernel
theorem d_M_cut_19 : decode b_M_cut 19 = .ok (.iload_n 3, 1) := by decide +kernel
theorem d_M_cut_20 : decode b_M_cut 20 = .ok (.aload_n 0, 1) := by decide +kernel
theorem d_M_cut_21 : decode b_M_cut 21 = .ok (.getfield 16, 3) := by decide +kernel
theorem d_M_cut_24 : decode b_M_cut 24 = .ok (.if_icmp .ge 37, 3) := by decide +kernel
theorem d_M_cut_27 : decode b_M_cut 27 = .ok (.aload_n 0, 1) := by decide +kernel
theorem d_M_cut_28 : decode b_M_cut 28 = .ok (.getfield 7, 3) := by decide +kernel
theorem d_M_cut_31 : decode b_M_cut 31 = .ok (.iload_n 3, 1) := by decide +kernel
theorem d_M_cut_32 : decode b_M_cut 32 = .ok (.aload_n 0, 1) := by decide +kernel
theorem d_M_cut_33 : decode b_M_cut 33 = .ok (.getfield 7, 3) := by decide +kernel
theorem d_M_cut_36 : decode b_M_cut 36 = .ok (.iload_n 3, 1) := by decide +kernel
theorem d_M_cut_37 : decode b_M_cut 37 = .ok (.iconst 1, 1) := by decide +kernel
theorem d_M_cut_38 : decode b_M_cut 38 = .ok (.iadd, 1) := by decide +kernel
theorem d_M_cut_39 : decode b_M_cut 39 = .ok (.iaload, 1) := by decide +kernel
theorem d_M_cut_40 : decode b_M_cut 40 = .ok (.iastore, 1) := by decide +kernel
theorem d_M_cut_41 : decode b_M_cut 41 = .ok (.aload_n 0, 1) := by decide +kernel
theorem d_M_cut_42 : decode b_M_cut 42 = .ok (.getfield 13, 3) := by decide +kernel
theorem d_M_cut_45 : decode b_M_cut 45 = .ok (.iload_n 3, 1) := by decide +kernel
theorem d_M_cut_46 : decode b_M_cut 46 = .ok (.aload_n 0, 1) := by decide +kernel
theorem d_M_cut_47 : decode b_M_cut 47 = .ok (.getfield 13, 3) := by decide +kernel
theorem d_M_cut_50 : decode b_M_cut 50 = .ok (.iload_n 3, 1) := by decide +kernel
theorem d_M_cut_51 : decode b_M_cut 51 = .ok (.iconst 1, 1) := by decide +kernel
theorem d_M_cut_52 : decode b_M_cut 52 = .ok (.iadd, 1) := by decide +kernel
theorem d_M_cut_53 : decode b_M_cut 53 = .ok (.iaload, 1) := by decide +kernel
theorem d_M_cut_54 : decode b_M_cut 54 = .ok (.iastore, 1) := by decide +kernel
theorem d_M_cut_55 : decode b_M_cut 55 = .ok (.iinc 3 1, 3) := by decide +kernel
theorem d_M_cut_58 : decode b_M_cut 58 = .ok (.goto (-39), 3) := by decide +kernel
theorem d_M_cut_61 : decode b_M_cut 61 = .ok (.iload_n 2, 1) := by decide +kernel
theorem d_M_cut_62 : decode b_M_cut 62 = .ok (.ireturn, 1) := by decide +kernel
theorem d_M_lay_0 : decode b_M_lay 0 = .ok (.aload_n 0, 1) := by decide +kernel
theorem d_M_lay_1 : decode b_M_lay 1 = .ok (.getfield 16, 3) := by decide +kernel
theorem d_M_lay_4 : decode b_M_lay 4 = .ok (.istore 4, 2) := by decide +kernel
theorem d_M_lay_6 : decode b_M_lay 6 = .ok (.iload 4, 2) := by decide +kernel
theorem d_M_lay_8 : decode b_M_lay 8 = .ok (.iload_n 1, 1) := by decide +kernel
theorem d_M_lay_9 : decode b_M_lay 9 = .ok (.if_icmp .le 41, 3) := by decide +kernel
theorem d_M_lay_12 : decode b_M_lay 12 = .ok (.aload_n 0, 1) := by decide +kernel
theorem d_M_lay_13 : decode b_M_lay 13 = .ok (.getfield 7, 3) := by decide +kernel
theorem d_M_lay_16 : decode b_M_lay 16 = .ok (.iload 4, 2) := by decide +kernel
theorem d_M_lay_18 : decode b_M_lay 18 = .ok (.aload_n 0, 1) := by decide +kernel
theorem d_M_lay_19 : decode b_M_lay 19 = .ok (.getfield 7, 3) := by decide +kernel
theorem d_M_lay_22 : decode b_M_lay 22 = .ok (.iload 4, 2) := by decide +kernel
theorem d_M_lay_24 : decode b_M_lay 24 = .ok (.iconst 1, 1) := by decide +kernel
theorem d_M_lay_25 : decode b_M_lay 25 = .ok (.isub, 1) := by decide +kernel
theorem d_M_lay_26 : decode b_M_lay 26 = .ok (.iaload, 1) := by decide +kernel
theorem d_M_lay_27 : decode b_M_lay 27 = .ok (.iastore, 1) := by decide +kernel
theorem d_M_lay_28 : decode b_M_lay 28 = .ok (.aload_n 0, 1) := by decide +kernel
theorem d_M_lay_29 : decode b_M_lay 29 = .ok (.getfield 13, 3) := by decide +kernel
theorem d_M_lay_32 : decode b_M_lay 32 = .ok (.iload 4, 2) := by decide +kernel
theorem d_M_lay_34 : decode b_M_lay 34 = .ok (.aload_n 0, 1) := by decide +kernel
theorem d_M_lay_35 : decode b_M_lay 35 = .ok (.getfield 13, 3) := by decide +kernel
theorem d_M_lay_38 : decode b_M_lay 38 = .ok (.iload 4, 2) := by decide +kernel
theorem d_M_lay_40 : decode b_M_lay 40 = .ok (.iconst 1, 1) := by decide +kernel
theorem d_M_lay_41 : decode b_M_lay 41 = .ok (.isub, 1) := by decide +kernel
theorem d_M_lay_42 : decode b_M_lay 42 = .ok (.iaload, 1) := by decide +kernel
theorem d_M_lay_43 : decode b_M_lay 43 = .ok (.iastore, 1) := by decide +kernel
theorem d_M_lay_44 : decode b_M_lay 44 = .ok (.iinc 4 (-1), 3) := by decide +kernel
theorem d_M_lay_47 : decode b_M_lay 47 = .ok (.goto (-41), 3) := by decide +kernel
theorem d_M_lay_50 : decode b_M_lay 50 = .ok (.aload_n 0, 1) := by decide +kernel
theorem d_M_lay_51 : decode b_M_lay 51 = .ok (.getfield 7, 3) := by decide +kernel
theorem d_M_lay_54 : decode b_M_lay 54 = .ok (.iload_n 1, 1) := by decide +kernel
theorem d_M_lay_55 : decode b_M_lay 55 = .ok (.iload_n 2, 1) := by decide +kernel
theorem d_M_lay_56 : decode b_M_lay 56 = .ok (.iastore, 1) := by decide +kernel
theorem d_M_lay_57 : decode b_M_lay 57 = .ok (.aload_n 0, 1) := by decide +kernel
theorem d_M_lay_58 : decode b_M_lay 58 = .ok (.getfield 13, 3) := by decide +kernel
theorem d_M_lay_61 : decode b_M_lay 61 = .ok (.iload_n 1, 1) := by decide +kernel
theorem d_M_lay_62 : decode b_M_lay 62 = .ok (.iload_n 3, 1) := by decide +kernel
theorem d_M_lay_63 : decode b_M_lay 63 = .ok (.iastore, 1) := by decide +kernel
theorem d_M_lay_64 : decode b_M_lay 64 = .ok (.aload_n 0, 1) := by decide +kernel
theorem d_M_lay_65 : decode b_M_lay 65 = .ok (.aload_n 0, 1) := by decide +kernel
theorem d_M_lay_66 : decode b_M_lay 66 = .ok (.getfield 16, 3) := by decide +kernel
theorem d_M_lay_69 : decode b_M_lay 69 = .ok (.iconst 1, 1) := by decide +kernel
theorem d_M_lay_70 : decode b_M_lay 70 = .ok (.iadd, 1) := by decide +kernel
theorem d_M_lay_71 : decode b_M_lay 71 = .ok (.putfield 16, 3) := by decide +kernel
theorem d_M_lay_74 : decode b_M_lay 74 = .ok (.return_, 1) := by decide +kernel
theorem d_M_put_0 : decode b_M_put 0 = .ok (.aload_n 0, 1) := by decide +kernel
theorem d_M_put_1 : decode b_M_put 1 = .ok (.iload_n 1, 1) := by decide +kernel
theorem d_M_put_2 : decode b_M_put 2 = .ok (.invokevirtual 20, 3) := by decide +kernel
theorem d_M_put_5 : decode b_M_put 5 = .ok (.istore_n 3, 1) := by decide +kernel
theorem d_M_put_6 : decode b_M_put 6 = .ok (.iload_n 3, 1) := by decide +kernel
theorem d_M_put_7 : decode b_M_put 7 = .ok (.aload_n 0, 1) := by decide +kernel
theorem d_M_put_8 : decode b_M_put 8 = .ok (.getfield 16, 3) := by decide +kernel
theorem d_M_put_11 : decode b_M_put 11 = .ok (.if_icmp .ge 21, 3) := by decide +kernel
theorem d_M_put_14 : decode b_M_put 14 = .ok (.aload_n 0, 1) := by decide +kernel
theorem d_M_put_15 : decode b_M_put 15 = .ok (.getfield 13, 3) := by decide +kernel
theorem d_M_put_18 : decode b_M_put 18 = .ok (.iload_n 3, 1) := by decide +kernel
theorem d_M_put_19 : decode b_M_put 19 = .ok (.iaload, 1) := by decide +kernel
theorem d_M_put_20 : decode b_M_put 20 = .ok (.istore 4, 2) := by decide +kernel
theorem d_M_put_22 : decode b_M_put 22 = .ok (.aload_n 0, 1) := by decide +kernel
theorem d_M_put_23 : decode b_M_put 23 = .ok (.getfield 13, 3) := by decide +kernel
theorem d_M_put_26 : decode b_M_put 26 = .ok (.iload_n 3, 1) := by decide +kernel
theorem d_M_put_27 : decode b_M_put 27 = .ok (.iload_n 2, 1) := by decide +kernel
theorem d_M_put_28 : decode b_M_put 28 = .ok (.iastore, 1) := by decide +kernel
theorem d_M_put_29 : decode b_M_put 29 = .ok (.iload 4, 2) := by decide +kernel
theorem d_M_put_31 : decode b_M_put 31 = .ok (.ireturn, 1) := by decide +kernel
theorem d_M_put_32 : decode b_M_put 32 = .ok (.aload_n 0, 1) := by decide +kernel
theorem d_M_put_33 : decode b_M_put 33 = .ok (.aload_n 0, 1) := by decide +kernel
theorem d_M_put_34 : decode b_M_put 34 = .ok (.getfield 16, 3) := by decide +kernel
theorem d_M_put_37 : decode b_M_put 37 = .ok (.iload_n 1, 1) := by decide +kernel
theorem d_M_put_38 : decode b_M_put 38 = .ok (.iload_n 2, 1) := by decide +kernel
theorem d_M_put_39 : decode b_M_put 39 = .ok (.invokevirtual 24, 3) := by decide +kernel
theorem d_M_put_42 : decode b_M_put 42 = .ok (.iconst 0, 1) := by decide +kernel
theorem d_M_put_43 : decode b_M_put 43 = .ok (.ireturn, 1) := by decide +kernel
theorem d_M_move_0 : decode b_M_move 0 = .ok (.aload_n 0, 1) := by decide +kernel
theorem d_M_move_1 : decode b_M_move 1 = .ok (.iload_n 1, 1) := by decide +kernel
theorem d_M_move_2 : decode b_M_move 2 = .ok (.invokevirtual 20, 3) := by decide +kernel
theorem d_M_move_5 : decode b_M_move 5 = .ok (.istore 4, 2) := by decide +kernel
theorem d_M_move_7 : decode b_M_move 7 = .ok (.iconst 0, 1) := by decide +kernel
theorem d_M_move_8 : decode b_M_move 8 = .ok (.istore 5, 2) := by decide +kernel
theorem d_M_move_10 : decode b_M_move 10 = .ok (.iload 4, 2) := by decide +kernel
theorem d_M_move_12 : decode b_M_move 12 = .ok (.aload_n 0, 1) := by decide +kernel
theorem d_M_move_13 : decode b_M_move 13 = .ok (.getfield 16, 3) := by decide +kernel
theorem d_M_move_16 : decode b_M_move 16 = .ok (.if_icmp .ge 11, 3) := by decide +kernel
theorem d_M_move_19 : decode b_M_move 19 = .ok (.aload_n 0, 1) := by decide +kernel
theorem d_M_move_20 : decode b_M_move 20 = .ok (.iload 4, 2) := by decide +kernel
theorem d_M_move_22 : decode b_M_move 22 = .ok (.invokevirtual 28, 3) := by decide +kernel
theorem d_M_move_25 : decode b_M_move 25 = .ok (.istore 5, 2) := by decide +kernel
theorem d_M_move_27 : decode b_M_move 27 = .ok (.aload_n 0, 1) := by decide +kernel
theorem d_M_move_28 : decode b_M_move 28 = .ok (.iload_n 3, 1) := by decide +kernel
theorem d_M_move_29 : decode b_M_move 29 = .ok (.ifCond .eq 7, 3) := by decide +kernel
theorem d_M_move_32 : decode b_M_move 32 = .ok (.iconst 0, 1) := by decide +kernel
theorem d_M_move_33 : decode b_M_move 33 = .ok (.goto 7, 3) := by decide +kernel
theorem d_M_move_36 : decode b_M_move 36 = .ok (.aload_n 0, 1) := by decide +kernel
theorem d_M_move_37 : decode b_M_move 37 = .ok (.getfield 16, 3) := by decide +kernel
theorem d_M_move_40 : decode b_M_move 40 = .ok (.iload_n 1, 1) := by decide +kernel
theorem d_M_move_41 : decode b_M_move 41 = .ok (.iload_n 2, 1) := by decide +kernel
theorem d_M_move_42 : decode b_M_move 42 = .ok (.invokevirtual 24, 3) := by decide +kernel
theorem d_M_move_45 : decode b_M_move 45 = .ok (.iload 5, 2) := by decide +kernel
theorem d_M_move_47 : decode b_M_move 47 = .ok (.ireturn, 1) := by decide +kernel
theorem d_M_putFirst_0 : decode b_M_putFirst 0 = .ok (.aload_n 0, 1) := by decide +kernel
theorem d_M_putFirst_1 : decode b_M_putFirst 1 = .ok (.iload_n 1, 1) := by decide +kernel
theorem d_M_putFirst_2 : decode b_M_putFirst 2 = .ok (.iload_n 2, 1) := by decide +kernel
theorem d_M_putFirst_3 : decode b_M_putFirst 3 = .ok (.iconst 1, 1) := by decide +kernel
theorem d_M_putFirst_4 : decode b_M_putFirst 4 = .ok (.invokevirtual 31, 3) := by decide +kernel
theorem d_M_putFirst_7 : decode b_M_putFirst 7 = .ok (.ireturn, 1) := by decide +kernel
theorem d_M_putLast_0 : decode b_M_putLast 0 = .ok (.aload_n 0, 1) := by decide +kernel
theorem d_M_putLast_1 : decode b_M_putLast 1 = .ok (.iload_n 1, 1) := by decide +kernel
theorem d_M_putLast_2 : decode b_M_putLast 2 = .ok (.iload_n 2, 1) := by decide +kernel
theorem d_M_putLast_3 : decode b_M_putLast 3 = .ok (.iconst 0, 1) := by decide +kernel
theorem d_M_putLast_4 : decode b_M_putLast 4 = .ok (.invokevirtual 31, 3) := by decide +kernel
theorem d_M_putLast_7 : decode b_M_putLast 7 = .ok (.ireturn, 1) := by decide +kernel
theorem d_M_touch_0 : decode b_M_touch 0 = .ok (.aload_n 0, 1) := by decide +kernel
theorem d_M_touch_1 : decode b_M_touch 1 = .ok (.iload_n 1, 1) := by decide +kernel
theorem d_M_touch_2 : decode b_M_touch 2 = .ok (.invokevirtual 20, 3) := by decide +kernel
theorem d_M_touch_5 : decode b_M_touch 5 = .ok (.istore_n 3, 1) := by decide +kernel
theorem d_M_touch_6 : decode b_M_touch 6 = .ok (.iload_n 3, 1) := by decide +kernel
theorem d_M_touch_7 : decode b_M_touch 7 = .ok (.aload_n 0, 1) := by decide +kernel
theorem d_M_touch_8 : decode b_M_touch 8 = .ok (.getfield 16, 3) := by decide +kernel
theorem d_M_touch_11 : decode b_M_touch 11 = .ok (.if_icmp .ne 5, 3) := by decide +kernel
theorem d_M_touch_14 : decode b_M_touch 14 = .ok (.iconst 0, 1) := by decide +kernel
theorem d_M_touch_15 : decode b_M_touch 15 = .ok (.ireturn, 1) := by decide +kernel
theorem d_M_touch_16 : decode b_M_touch 16 = .ok (.aload_n 0, 1) := by decide +kernel
theorem d_M_touch_17 : decode b_M_touch 17 = .ok (.iload_n 3, 1) := by decide +kernel
theorem d_M_touch_18 : decode b_M_touch 18 = .ok (.invokevirtual 28, 3) := by decide +kernel
theorem d_M_touch_21 : decode b_M_touch 21 = .ok (.istore 4, 2) := by decide +kernel
theorem d_M_touch_23 : decode b_M_touch 23 = .ok (.aload_n 0, 1) := by decide +kernel
theorem d_M_touch_24 : decode b_M_touch 24 = .ok (.iload_n 2, 1) := by decide +kernel
theorem d_M_touch_25 : decode b_M_touch 25 = .ok (.ifCond .eq 7, 3) := by decide +kernel
theorem d_M_touch_28 : decode b_M_touch 28 = .ok (.iconst 0, 1) := by decide +kernel
theorem d_M_touch_29 : decode b_M_touch 29 = .ok (.goto 7, 3) := by decide +kernel
theorem d_M_touch_32 : decode b_M_touch 32 = .ok (.aload_n 0, 1) := by decide +kernel
theorem d_M_touch_33 : decode b_M_touch 33 = .ok (.getfield 16, 3) := by decide +kernel
theorem d_M_touch_36 : decode b_M_touch 36 = .ok (.iload_n 1, 1) := by decide +kernel
theorem d_M_touch_37 : decode b_M_touch 37 = .ok (.iload 4, 2) := by decide +kernel
theorem d_M_touch_39 : decode b_M_touch 39 = .ok (.invokevirtual 24, 3) := by decide +kernel
theorem d_M_touch_42 : decode b_M_touch 42 = .ok (.iload 4, 2) := by decide +kernel
theorem d_M_touch_44 : decode b_M_touch 44 = .ok (.ireturn, 1) := by decide +kernel
theorem d_M_touchFirst_0 : decode b_M_touchFirst 0 = .ok (.aload_n 0, 1) := by decide +kernel
theorem d_M_touchFirst_1 : decode b_M_touchFirst 1 = .ok (.iload_n 1, 1) := by decide +kernel
theorem d_M_touchFirst_2 : decode b_M_touchFirst 2 = .ok (.iconst 1, 1) := by decide +kernel
theorem d_M_touchFirst_3 : decode b_M_touchFirst 3 = .ok (.invokevirtual 35, 3) := by decide +kernel
theorem d_M_touchFirst_6 : decode b_M_touchFirst 6 = .ok (.ireturn, 1) := by decide +kernel
theorem d_M_touchLast_0 : decode b_M_touchLast 0 = .ok (.aload_n 0, 1) := by decide +kernel
theorem d_M_touchLast_1 : decode b_M_touchLast 1 = .ok (.iload_n 1, 1) := by decide +kernel
theorem d_M_touchLast_2 : decode b_M_touchLast 2 = .ok (.iconst 0, 1) := by decide +kernel
theorem d_M_touchLast_3 : decode b_M_touchLast 3 = .ok (.invokevirtual 35, 3) := by decide +kernel
theorem d_M_touchLast_6 : decode b_M_touchLast 6 = .ok (.ireturn, 1) := by decide +kernel
theorem d_M_get_0 : decode b_M_get 0 = .ok (.aload_n 0, 1) := by decide +kernel
theorem d_M_get_1 : decode b_M_get 1 = .ok (.iload_n 1, 1) := by decide +kernel
theorem d_M_get_2 : decode b_M_get 2 = .ok (.invokevirtual 20, 3) := by decide +kernel
theorem d_M_get_5 : decode b_M_get 5 = .ok (.istore_n 2, 1) := by decide +kernel
theorem d_M_get_6 : decode b_M_get 6 = .ok (.iload_n 2, 1) := by decide +kernel
theorem d_M_get_7 : decode b_M_get 7 = .ok (.aload_n 0, 1) := by decide +kernel
theorem d_M_get_8 : decode b_M_get 8 = .ok (.getfield 16, 3) := by decide +kernel
theorem d_M_get_11 : decode b_M_get 11 = .ok (.if_icmp .ge 12, 3) := by decide +kernel
theorem d_M_get_14 : decode b_M_get 14 = .ok (.aload_n 0, 1) := by decide +kernel
theorem d_M_get_15 : decode b_M_get 15 = .ok (.getfield 13, 3) := by decide +kernel
theorem d_M_get_18 : decode b_M_get 18 = .ok (.iload_n 2, 1) := by decide +kernel
theorem d_M_get_19 : decode b_M_get 19 = .ok (.iaload, 1) := by decide +kernel
theorem d_M_get_20 : decode b_M_get 20 = .ok (.goto 4, 3) := by decide +kernel
theorem d_M_get_23 : decode b_M_get 23 = .ok (.iconst 0, 1) := by decide +kernel
theorem d_M_get_24 : decode b_M_get 24 = .ok (.ireturn, 1) := by decide +kernel
theorem d_M_remove_0 : decode b_M_remove 0 = .ok (.aload_n 0, 1) := by decide +kernel
theorem d_M_remove_1 : decode b_M_remove 1 = .ok (.iload_n 1, 1) := by decide +kernel
theorem d_M_remove_2 : decode b_M_remove 2 = .ok (.invokevirtual 20, 3) := by decide +kernel
theorem d_M_remove_5 : decode b_M_remove 5 = .ok (.istore_n 2, 1) := by decide +kernel
theorem d_M_remove_6 : decode b_M_remove 6 = .ok (.iload_n 2, 1) := by decide +kernel
theorem d_M_remove_7 : decode b_M_remove 7 = .ok (.aload_n 0, 1) := by decide +kernel
theorem d_M_remove_8 : decode b_M_remove 8 = .ok (.getfield 16, 3) := by decide +kernel
theorem d_M_remove_11 : decode b_M_remove 11 = .ok (.if_icmp .ge 11, 3) := by decide +kernel
theorem d_M_remove_14 : decode b_M_remove 14 = .ok (.aload_n 0, 1) := by decide +kernel
theorem d_M_remove_15 : decode b_M_remove 15 = .ok (.iload_n 2, 1) := by decide +kernel
theorem d_M_remove_16 : decode b_M_remove 16 = .ok (.invokevirtual 28, 3) := by decide +kernel
theorem d_M_remove_19 : decode b_M_remove 19 = .ok (.goto 4, 3) := by decide +kernel
theorem d_M_remove_22 : decode b_M_remove 22 = .ok (.iconst 0, 1) := by decide +kernel
theorem d_M_remove_23 : decode b_M_remove 23 = .ok (.ireturn, 1) := by decide +kernel
theorem d_M_dropFirst_0 : decode b_M_dropFirst 0 = .ok (.aload_n 0, 1) := by decide +kernel
theorem d_M_dropFirst_1 : decode b_M_dropFirst 1 = .ok (.getfield 16, 3) := by decide +kernel
theorem d_M_dropFirst_4 : decode b_M_dropFirst 4 = .ok (.ifCond .ne 7, 3) := by decide +kernel
theorem d_M_dropFirst_7 : decode b_M_dropFirst 7 = .ok (.iconst 0, 1) := by decide +kernel
theorem d_M_dropFirst_8 : decode b_M_dropFirst 8 = .ok (.goto 8, 3) := by decide +kernel
theorem d_M_dropFirst_11 : decode b_M_dropFirst 11 = .ok (.aload_n 0, 1) := by decide +kernel
theorem d_M_dropFirst_12 : decode b_M_dropFirst 12 = .ok (.iconst 0, 1) := by decide +kernel
theorem d_M_dropFirst_13 : decode b_M_dropFirst 13 = .ok (.invokevirtual 28, 3) := by decide +kernel
theorem d_M_dropFirst_16 : decode b_M_dropFirst 16 = .ok (.ireturn, 1) := by decide +kernel
theorem d_M_dropLast_0 : decode b_M_dropLast 0 = .ok (.aload_n 0, 1) := by decide +kernel
theorem d_M_dropLast_1 : decode b_M_dropLast 1 = .ok (.getfield 16, 3) := by decide +kernel
theorem d_M_dropLast_4 : decode b_M_dropLast 4 = .ok (.ifCond .ne 7, 3) := by decide +kernel
theorem d_M_dropLast_7 : decode b_M_dropLast 7 = .ok (.iconst 0, 1) := by decide +kernel
theorem d_M_dropLast_8 : decode b_M_dropLast 8 = .ok (.goto 13, 3) := by decide +kernel
theorem d_M_dropLast_11 : decode b_M_dropLast 11 = .ok (.aload_n 0, 1) := by decide +kernel
theorem d_M_dropLast_12 : decode b_M_dropLast 12 = .ok (.aload_n 0, 1) := by decide +kernel
theorem d_M_dropLast_13 : decode b_M_dropLast 13 = .ok (.getfield 16, 3) := by decide +kernel
theorem d_M_dropLast_16 : decode b_M_dropLast 16 = .ok (.iconst 1, 1) := by decide +kernel
theorem d_M_dropLast_17 : decode b_M_dropLast 17 = .ok (.isub, 1) := by decide +kernel
theorem d_M_dropLast_18 : decode b_M_dropLast 18 = .ok (.invokevirtual 28, 3) := by decide +kernel
theorem d_M_dropLast_21 : decode b_M_dropLast 21 = .ok (.ireturn, 1) := by decide +kernel
theorem d_M_first_0 : decode b_M_first 0 = .ok (.aload_n 0, 1) := by decide +kernel
theorem d_M_first_1 : decode b_M_first 1 = .ok (.getfield 16, 3) := by decide +kernel
theorem d_M_first_4 : decode b_M_first 4 = .ok (.ifCond .ne 7, 3) := by decide +kernel
theorem d_M_first_7 : decode b_M_first 7 = .ok (.iconst 0, 1) := by decide +kernel
theorem d_M_first_8 : decode b_M_first 8 = .ok (.goto 9, 3) := by decide +kernel
theorem d_M_first_11 : decode b_M_first 11 = .ok (.aload_n 0, 1) := by decide +kernel
theorem d_M_first_12 : decode b_M_first 12 = .ok (.getfield 7, 3) := by decide +kernel
theorem d_M_first_15 : decode b_M_first 15 = .ok (.iconst 0, 1) := by decide +kernel
theorem d_M_first_16 : decode b_M_first 16 = .ok (.iaload, 1) := by decide +kernel
theorem d_M_first_17 : decode b_M_first 17 = .ok (.ireturn, 1) := by decide +kernel
theorem d_M_last_0 : decode b_M_last 0 = .ok (.aload_n 0, 1) := by decide +kernel
theorem d_M_last_1 : decode b_M_last 1 = .ok (.getfield 16, 3) := by decide +kernel
theorem d_M_last_4 : decode b_M_last 4 = .ok (.ifCond .ne 7, 3) := by decide +kernel
theorem d_M_last_7 : decode b_M_last 7 = .ok (.iconst 0, 1) := by decide +kernel
theorem d_M_last_8 : decode b_M_last 8 = .ok (.goto 14, 3) := by decide +kernel
theorem d_M_last_11 : decode b_M_last 11 = .ok (.aload_n 0, 1) := by decide +kernel
theorem d_M_last_12 : decode b_M_last 12 = .ok (.getfield 7, 3) := by decide +kernel
theorem d_M_last_15 : decode b_M_last 15 = .ok (.aload_n 0, 1) := by decide +kernel
theorem d_M_last_16 : decode b_M_last 16 = .ok (.getfield 16, 3) := by decide +kernel
theorem d_M_last_19 : decode b_M_last 19 = .ok (.iconst 1, 1) := by decide +kernel
theorem d_M_last_20 : decode b_M_last 20 = .ok (.isub, 1) := by decide +kernel
theorem d_M_last_21 : decode b_M_last 21 = .ok (.iaload, 1) := by decide +kernel
theorem d_M_last_22 : decode b_M_last 22 = .ok (.ireturn, 1) := by decide +kernel
theorem d_M_size_0 : decode b_M_size 0 = .ok (.aload_n 0, 1) := by decide +kernel
theorem d_M_size_1 : decode b_M_size 1 = .ok (.getfield 16, 3) := by decide +kernel
theorem d_M_size_4 : decode b_M_size 4 = .ok (.ireturn, 1) := by decide +kernel
theorem d_M_clear_0 : decode b_M_clear 0 = .ok (.aload_n 0, 1) := by decide +kernel
theorem d_M_clear_1 : decode b_M_clear 1 = .ok (.iconst 0, 1) := by decide +kernel
theorem d_M_clear_2 : decode b_M_clear 2 = .ok (.putfield 16, 3) := by decide +kernel
theorem d_M_clear_5 : decode b_M_clear 5 = .ok (.return_, 1) := by decide +kernel
end
section
/-! DECODE ROWS (printed by gen/base.py) -/
theorem d_T_init_0 : decode b_T_init 0 = .ok (.aload_n 0, 1) := by decide +kernel
theorem d_T_init_1 : decode b_T_init 1 = .ok (.invokespecial 3, 3) := by decide +kernel
theorem d_T_init_4 : decode b_T_init 4 = .ok (.aload_n 0, 1) := by decide +kernel
theorem d_T_init_5 : decode b_T_init 5 = .ok (.sipush 4097, 3) := by decide +kernel
theorem d_T_init_8 : decode b_T_init 8 = .ok (.newarray .int, 2) := by decide +kernel
theorem d_T_init_10 : decode b_T_init 10 = .ok (.putfield 9, 3) := by decide +kernel
theorem d_T_init_13 : decode b_T_init 13 = .ok (.aload_n 0, 1) := by decide +kernel
theorem d_T_init_14 : decode b_T_init 14 = .ok (.sipush 4097, 3) := by decide +kernel
theorem d_T_init_17 : decode b_T_init 17 = .ok (.newarray .int, 2) := by decide +kernel
theorem d_T_init_19 : decode b_T_init 19 = .ok (.putfield 15, 3) := by decide +kernel
theorem d_T_init_22 : decode b_T_init 22 = .ok (.aload_n 0, 1) := by decide +kernel
theorem d_T_init_23 : decode b_T_init 23 = .ok (.sipush 4097, 3) := by decide +kernel
theorem d_T_init_26 : decode b_T_init 26 = .ok (.newarray .int, 2) := by decide +kernel
theorem d_T_init_28 : decode b_T_init 28 = .ok (.putfield 18, 3) := by decide +kernel
theorem d_T_init_31 : decode b_T_init 31 = .ok (.aload_n 0, 1) := by decide +kernel
theorem d_T_init_32 : decode b_T_init 32 = .ok (.iconst 0, 1) := by decide +kernel
theorem d_T_init_33 : decode b_T_init 33 = .ok (.putfield 21, 3) := by decide +kernel
theorem d_T_init_36 : decode b_T_init 36 = .ok (.return_, 1) := by decide +kernel
theorem d_T_lift_0 : decode b_T_lift 0 = .ok (.aload_n 0, 1) := by decide +kernel
theorem d_T_lift_1 : decode b_T_lift 1 = .ok (.getfield 21, 3) := by decide +kernel
theorem d_T_lift_4 : decode b_T_lift 4 = .ok (.ifCond .ne 4, 3) := by decide +kernel
theorem d_T_lift_7 : decode b_T_lift 7 = .ok (.return_, 1) := by decide +kernel
theorem d_T_lift_8 : decode b_T_lift 8 = .ok (.aload_n 0, 1) := by decide +kernel
theorem d_T_lift_9 : decode b_T_lift 9 = .ok (.getfield 21, 3) := by decide +kernel
theorem d_T_lift_12 : decode b_T_lift 12 = .ok (.istore_n 2, 1) := by decide +kernel
theorem d_T_lift_13 : decode b_T_lift 13 = .ok (.iconst 0, 1) := by decide +kernel
theorem d_T_lift_14 : decode b_T_lift 14 = .ok (.istore_n 3, 1) := by decide +kernel
theorem d_T_lift_15 : decode b_T_lift 15 = .ok (.iconst 0, 1) := by decide +kernel
theorem d_T_lift_16 : decode b_T_lift 16 = .ok (.istore 4, 2) := by decide +kernel
theorem d_T_lift_18 : decode b_T_lift 18 = .ok (.aload_n 0, 1) := by decide +kernel
theorem d_T_lift_19 : decode b_T_lift 19 = .ok (.getfield 15, 3) := by decide +kernel
theorem d_T_lift_22 : decode b_T_lift 22 = .ok (.iconst 0, 1) := by decide +kernel
theorem d_T_lift_23 : decode b_T_lift 23 = .ok (.iconst 0, 1) := by decide +kernel
theorem d_T_lift_24 : decode b_T_lift 24 = .ok (.iastore, 1) := by decide +kernel
theorem d_T_lift_25 : decode b_T_lift 25 = .ok (.aload_n 0, 1) := by decide +kernel
theorem d_T_lift_26 : decode b_T_lift 26 = .ok (.getfield 18, 3) := by decide +kernel
theorem d_T_lift_29 : decode b_T_lift 29 = .ok (.iconst 0, 1) := by decide +kernel
theorem d_T_lift_30 : decode b_T_lift 30 = .ok (.iconst 0, 1) := by decide +kernel
theorem d_T_lift_31 : decode b_T_lift 31 = .ok (.iastore, 1) := by decide +kernel
theorem d_T_lift_32 : decode b_T_lift 32 = .ok (.aload_n 0, 1) := by decide +kernel
theorem d_T_lift_33 : decode b_T_lift 33 = .ok (.getfield 9, 3) := by decide +kernel
theorem d_T_lift_36 : decode b_T_lift 36 = .ok (.iload_n 2, 1) := by decide +kernel
theorem d_T_lift_37 : decode b_T_lift 37 = .ok (.iaload, 1) := by decide +kernel
theorem d_T_lift_38 : decode b_T_lift 38 = .ok (.iload_n 1, 1) := by decide +kernel
theorem d_T_lift_39 : decode b_T_lift 39 = .ok (.if_icmp .eq 7, 3) := by decide +kernel
theorem d_T_lift_42 : decode b_T_lift 42 = .ok (.iconst 1, 1) := by decide +kernel
theorem d_T_lift_43 : decode b_T_lift 43 = .ok (.goto 4, 3) := by decide +kernel
theorem d_T_lift_46 : decode b_T_lift 46 = .ok (.iconst 0, 1) := by decide +kernel
theorem d_T_lift_47 : decode b_T_lift 47 = .ok (.istore 5, 2) := by decide +kernel
theorem d_T_lift_49 : decode b_T_lift 49 = .ok (.iload 5, 2) := by decide +kernel
theorem d_T_lift_51 : decode b_T_lift 51 = .ok (.ifCond .eq 208, 3) := by decide +kernel
theorem d_T_lift_54 : decode b_T_lift 54 = .ok (.iload_n 1, 1) := by decide +kernel
theorem d_T_lift_55 : decode b_T_lift 55 = .ok (.aload_n 0, 1) := by decide +kernel
theorem d_T_lift_56 : decode b_T_lift 56 = .ok (.getfield 9, 3) := by decide +kernel
theorem d_T_lift_59 : decode b_T_lift 59 = .ok (.iload_n 2, 1) := by decide +kernel
theorem d_T_lift_60 : decode b_T_lift 60 = .ok (.iaload, 1) := by decide +kernel
theorem d_T_lift_61 : decode b_T_lift 61 = .ok (.if_icmp .ge 7, 3) := by decide +kernel
theorem d_T_lift_64 : decode b_T_lift 64 = .ok (.iconst 1, 1) := by decide +kernel
theorem d_T_lift_65 : decode b_T_lift 65 = .ok (.goto 4, 3) := by decide +kernel
theorem d_T_lift_68 : decode b_T_lift 68 = .ok (.iconst 0, 1) := by decide +kernel
theorem d_T_lift_69 : decode b_T_lift 69 = .ok (.istore 6, 2) := by decide +kernel
theorem d_T_lift_71 : decode b_T_lift 71 = .ok (.iload 6, 2) := by decide +kernel
theorem d_T_lift_73 : decode b_T_lift 73 = .ok (.ifCond .eq 12, 3) := by decide +kernel
theorem d_T_lift_76 : decode b_T_lift 76 = .ok (.aload_n 0, 1) := by decide +kernel
theorem d_T_lift_77 : decode b_T_lift 77 = .ok (.getfield 15, 3) := by decide +kernel
theorem d_T_lift_80 : decode b_T_lift 80 = .ok (.iload_n 2, 1) := by decide +kernel
theorem d_T_lift_81 : decode b_T_lift 81 = .ok (.iaload, 1) := by decide +kernel
theorem d_T_lift_82 : decode b_T_lift 82 = .ok (.goto 9, 3) := by decide +kernel
theorem d_T_lift_85 : decode b_T_lift 85 = .ok (.aload_n 0, 1) := by decide +kernel
theorem d_T_lift_86 : decode b_T_lift 86 = .ok (.getfield 18, 3) := by decide +kernel
theorem d_T_lift_89 : decode b_T_lift 89 = .ok (.iload_n 2, 1) := by decide +kernel
theorem d_T_lift_90 : decode b_T_lift 90 = .ok (.iaload, 1) := by decide +kernel
theorem d_T_lift_91 : decode b_T_lift 91 = .ok (.istore 7, 2) := by decide +kernel
theorem d_T_lift_93 : decode b_T_lift 93 = .ok (.iload 7, 2) := by decide +kernel
theorem d_T_lift_95 : decode b_T_lift 95 = .ok (.ifCond .ne 6, 3) := by decide +kernel
theorem d_T_lift_98 : decode b_T_lift 98 = .ok (.goto 161, 3) := by decide +kernel
theorem d_T_lift_101 : decode b_T_lift 101 = .ok (.iload 6, 2) := by decide +kernel
theorem d_T_lift_103 : decode b_T_lift 103 = .ok (.ifCond .eq 49, 3) := by decide +kernel
theorem d_T_lift_106 : decode b_T_lift 106 = .ok (.iload_n 1, 1) := by decide +kernel
theorem d_T_lift_107 : decode b_T_lift 107 = .ok (.aload_n 0, 1) := by decide +kernel
theorem d_T_lift_108 : decode b_T_lift 108 = .ok (.getfield 9, 3) := by decide +kernel
theorem d_T_lift_111 : decode b_T_lift 111 = .ok (.iload 7, 2) := by decide +kernel
theorem d_T_lift_113 : decode b_T_lift 113 = .ok (.iaload, 1) := by decide +kernel
theorem d_T_lift_114 : decode b_T_lift 114 = .ok (.if_icmp .ge 38, 3) := by decide +kernel
theorem d_T_lift_117 : decode b_T_lift 117 = .ok (.aload_n 0, 1) := by decide +kernel
theorem d_T_lift_118 : decode b_T_lift 118 = .ok (.getfield 15, 3) := by decide +kernel
theorem d_T_lift_121 : decode b_T_lift 121 = .ok (.iload_n 2, 1) := by decide +kernel
theorem d_T_lift_122 : decode b_T_lift 122 = .ok (.aload_n 0, 1) := by decide +kernel
theorem d_T_lift_123 : decode b_T_lift 123 = .ok (.getfield 18, 3) := by decide +kernel
theorem d_T_lift_126 : decode b_T_lift 126 = .ok (.iload 7, 2) := by decide +kernel
theorem d_T_lift_128 : decode b_T_lift 128 = .ok (.iaload, 1) := by decide +kernel
theorem d_T_lift_129 : decode b_T_lift 129 = .ok (.iastore, 1) := by decide +kernel
theorem d_T_lift_130 : decode b_T_lift 130 = .ok (.aload_n 0, 1) := by decide +kernel
theorem d_T_lift_131 : decode b_T_lift 131 = .ok (.getfield 18, 3) := by decide +kernel
theorem d_T_lift_134 : decode b_T_lift 134 = .ok (.iload 7, 2) := by decide +kernel
theorem d_T_lift_136 : decode b_T_lift 136 = .ok (.iload_n 2, 1) := by decide +kernel
theorem d_T_lift_137 : decode b_T_lift 137 = .ok (.iastore, 1) := by decide +kernel
theorem d_T_lift_138 : decode b_T_lift 138 = .ok (.iload 7, 2) := by decide +kernel
theorem d_T_lift_140 : decode b_T_lift 140 = .ok (.istore_n 2, 1) := by decide +kernel
theorem d_T_lift_141 : decode b_T_lift 141 = .ok (.aload_n 0, 1) := by decide +kernel
theorem d_T_lift_142 : decode b_T_lift 142 = .ok (.getfield 15, 3) := by decide +kernel
theorem d_T_lift_145 : decode b_T_lift 145 = .ok (.iload_n 2, 1) := by decide +kernel
theorem d_T_lift_146 : decode b_T_lift 146 = .ok (.iaload, 1) := by decide +kernel
theorem d_T_lift_147 : decode b_T_lift 147 = .ok (.istore 7, 2) := by decide +kernel
theorem d_T_lift_149 : decode b_T_lift 149 = .ok (.goto 51, 3) := by decide +kernel
theorem d_T_lift_152 : decode b_T_lift 152 = .ok (.iload 6, 2) := by decide +kernel
theorem d_T_lift_154 : decode b_T_lift 154 = .ok (.ifCond .ne 46, 3) := by decide +kernel
theorem d_T_lift_157 : decode b_T_lift 157 = .ok (.iload_n 1, 1) := by decide +kernel
theorem d_T_lift_158 : decode b_T_lift 158 = .ok (.aload_n 0, 1) := by decide +kernel
theorem d_T_lift_159 : decode b_T_lift 159 = .ok (.getfield 9, 3) := by decide +kernel
theorem d_T_lift_162 : decode b_T_lift 162 = .ok (.iload 7, 2) := by decide +kernel
theorem d_T_lift_164 : decode b_T_lift 164 = .ok (.iaload, 1) := by decide +kernel
theorem d_T_lift_165 : decode b_T_lift 165 = .ok (.if_icmp .le 35, 3) := by decide +kernel
theorem d_T_lift_168 : decode b_T_lift 168 = .ok (.aload_n 0, 1) := by decide +kernel
theorem d_T_lift_169 : decode b_T_lift 169 = .ok (.getfield 18, 3) := by decide +kernel
theorem d_T_lift_172 : decode b_T_lift 172 = .ok (.iload_n 2, 1) := by decide +kernel
theorem d_T_lift_173 : decode b_T_lift 173 = .ok (.aload_n 0, 1) := by decide +kernel
theorem d_T_lift_174 : decode b_T_lift 174 = .ok (.getfield 15, 3) := by decide +kernel
theorem d_T_lift_177 : decode b_T_lift 177 = .ok (.iload 7, 2) := by decide +kernel
theorem d_T_lift_179 : decode b_T_lift 179 = .ok (.iaload, 1) := by decide +kernel
theorem d_T_lift_180 : decode b_T_lift 180 = .ok (.iastore, 1) := by decide +kernel
theorem d_T_lift_181 : decode b_T_lift 181 = .ok (.aload_n 0, 1) := by decide +kernel
theorem d_T_lift_182 : decode b_T_lift 182 = .ok (.getfield 15, 3) := by decide +kernel
theorem d_T_lift_185 : decode b_T_lift 185 = .ok (.iload 7, 2) := by decide +kernel
theorem d_T_lift_187 : decode b_T_lift 187 = .ok (.iload_n 2, 1) := by decide +kernel
theorem d_T_lift_188 : decode b_T_lift 188 = .ok (.iastore, 1) := by decide +kernel
theorem d_T_lift_189 : decode b_T_lift 189 = .ok (.iload 7, 2) := by decide +kernel
theorem d_T_lift_191 : decode b_T_lift 191 = .ok (.istore_n 2, 1) := by decide +kernel
theorem d_T_lift_192 : decode b_T_lift 192 = .ok (.aload_n 0, 1) := by decide +kernel
theorem d_T_lift_193 : decode b_T_lift 193 = .ok (.getfield 18, 3) := by decide +kernel
theorem d_T_lift_196 : decode b_T_lift 196 = .ok (.iload_n 2, 1) := by decide +kernel
theorem d_T_lift_197 : decode b_T_lift 197 = .ok (.iaload, 1) := by decide +kernel
theorem d_T_lift_198 : decode b_T_lift 198 = .ok (.istore 7, 2) := by decide +kernel
theorem d_T_lift_200 : decode b_T_lift 200 = .ok (.iload 7, 2) := by decide +kernel
theorem d_T_lift_202 : decode b_T_lift 202 = .ok (.ifCond .ne 6, 3) := by decide +kernel
theorem d_T_lift_205 : decode b_T_lift 205 = .ok (.goto 54, 3) := by decide +kernel
theorem d_T_lift_208 : decode b_T_lift 208 = .ok (.iload 6, 2) := by decide +kernel
theorem d_T_lift_210 : decode b_T_lift 210 = .ok (.ifCond .eq 17, 3) := by decide +kernel
theorem d_T_lift_213 : decode b_T_lift 213 = .ok (.aload_n 0, 1) := by decide +kernel
theorem d_T_lift_214 : decode b_T_lift 214 = .ok (.getfield 15, 3) := by decide +kernel
theorem d_T_lift_217 : decode b_T_lift 217 = .ok (.iload 4, 2) := by decide +kernel
theorem d_T_lift_219 : decode b_T_lift 219 = .ok (.iload_n 2, 1) := by decide +kernel
theorem d_T_lift_220 : decode b_T_lift 220 = .ok (.iastore, 1) := by decide +kernel
theorem d_T_lift_221 : decode b_T_lift 221 = .ok (.iload_n 2, 1) := by decide +kernel
theorem d_T_lift_222 : decode b_T_lift 222 = .ok (.istore 4, 2) := by decide +kernel
theorem d_T_lift_224 : decode b_T_lift 224 = .ok (.goto 12, 3) := by decide +kernel
theorem d_T_lift_227 : decode b_T_lift 227 = .ok (.aload_n 0, 1) := by decide +kernel
theorem d_T_lift_228 : decode b_T_lift 228 = .ok (.getfield 18, 3) := by decide +kernel
theorem d_T_lift_231 : decode b_T_lift 231 = .ok (.iload_n 3, 1) := by decide +kernel
theorem d_T_lift_232 : decode b_T_lift 232 = .ok (.iload_n 2, 1) := by decide +kernel
theorem d_T_lift_233 : decode b_T_lift 233 = .ok (.iastore, 1) := by decide +kernel
theorem d_T_lift_234 : decode b_T_lift 234 = .ok (.iload_n 2, 1) := by decide +kernel
theorem d_T_lift_235 : decode b_T_lift 235 = .ok (.istore_n 3, 1) := by decide +kernel
theorem d_T_lift_236 : decode b_T_lift 236 = .ok (.iload 7, 2) := by decide +kernel
theorem d_T_lift_238 : decode b_T_lift 238 = .ok (.istore_n 2, 1) := by decide +kernel
theorem d_T_lift_239 : decode b_T_lift 239 = .ok (.aload_n 0, 1) := by decide +kernel
theorem d_T_lift_240 : decode b_T_lift 240 = .ok (.getfield 9, 3) := by decide +kernel
theorem d_T_lift_243 : decode b_T_lift 243 = .ok (.iload_n 2, 1) := by decide +kernel
theorem d_T_lift_244 : decode b_T_lift 244 = .ok (.iaload, 1) := by decide +kernel
theorem d_T_lift_245 : decode b_T_lift 245 = .ok (.iload_n 1, 1) := by decide +kernel
theorem d_T_lift_246 : decode b_T_lift 246 = .ok (.if_icmp .eq 7, 3) := by decide +kernel
theorem d_T_lift_249 : decode b_T_lift 249 = .ok (.iconst 1, 1) := by decide +kernel
theorem d_T_lift_250 : decode b_T_lift 250 = .ok (.goto 4, 3) := by decide +kernel
theorem d_T_lift_253 : decode b_T_lift 253 = .ok (.iconst 0, 1) := by decide +kernel
theorem d_T_lift_254 : decode b_T_lift 254 = .ok (.istore 5, 2) := by decide +kernel
theorem d_T_lift_256 : decode b_T_lift 256 = .ok (.goto (-207), 3) := by decide +kernel
theorem d_T_lift_259 : decode b_T_lift 259 = .ok (.aload_n 0, 1) := by decide +kernel
theorem d_T_lift_260 : decode b_T_lift 260 = .ok (.getfield 15, 3) := by decide +kernel
theorem d_T_lift_263 : decode b_T_lift 263 = .ok (.iload_n 2, 1) := by decide +kernel
theorem d_T_lift_264 : decode b_T_lift 264 = .ok (.iaload, 1) := by decide +kernel
theorem d_T_lift_265 : decode b_T_lift 265 = .ok (.istore 6, 2) := by decide +kernel
theorem d_T_lift_267 : decode b_T_lift 267 = .ok (.aload_n 0, 1) := by decide +kernel
theorem d_T_lift_268 : decode b_T_lift 268 = .ok (.getfield 18, 3) := by decide +kernel
theorem d_T_lift_271 : decode b_T_lift 271 = .ok (.iload_n 2, 1) := by decide +kernel
theorem d_T_lift_272 : decode b_T_lift 272 = .ok (.iaload, 1) := by decide +kernel
theorem d_T_lift_273 : decode b_T_lift 273 = .ok (.istore 7, 2) := by decide +kernel
theorem d_T_lift_275 : decode b_T_lift 275 = .ok (.iconst 0, 1) := by decide +kernel
theorem d_T_lift_276 : decode b_T_lift 276 = .ok (.istore 8, 2) := by decide +kernel
theorem d_T_lift_278 : decode b_T_lift 278 = .ok (.iconst 0, 1) := by decide +kernel
theorem d_T_lift_279 : decode b_T_lift 279 = .ok (.istore 9, 2) := by decide +kernel
theorem d_T_lift_281 : decode b_T_lift 281 = .ok (.iload_n 3, 1) := by decide +kernel
theorem d_T_lift_282 : decode b_T_lift 282 = .ok (.ifCond .ne 10, 3) := by decide +kernel
theorem d_T_lift_285 : decode b_T_lift 285 = .ok (.iload 6, 2) := by decide +kernel
theorem d_T_lift_287 : decode b_T_lift 287 = .ok (.istore 8, 2) := by decide +kernel
theorem d_T_lift_289 : decode b_T_lift 289 = .ok (.goto 19, 3) := by decide +kernel
theorem d_T_lift_292 : decode b_T_lift 292 = .ok (.aload_n 0, 1) := by decide +kernel
theorem d_T_lift_293 : decode b_T_lift 293 = .ok (.getfield 18, 3) := by decide +kernel
theorem d_T_lift_296 : decode b_T_lift 296 = .ok (.iload_n 3, 1) := by decide +kernel
theorem d_T_lift_297 : decode b_T_lift 297 = .ok (.iload 6, 2) := by decide +kernel
theorem d_T_lift_299 : decode b_T_lift 299 = .ok (.iastore, 1) := by decide +kernel
theorem d_T_lift_300 : decode b_T_lift 300 = .ok (.aload_n 0, 1) := by decide +kernel
theorem d_T_lift_301 : decode b_T_lift 301 = .ok (.getfield 18, 3) := by decide +kernel
theorem d_T_lift_304 : decode b_T_lift 304 = .ok (.iconst 0, 1) := by decide +kernel
theorem d_T_lift_305 : decode b_T_lift 305 = .ok (.iaload, 1) := by decide +kernel
theorem d_T_lift_306 : decode b_T_lift 306 = .ok (.istore 8, 2) := by decide +kernel
theorem d_T_lift_308 : decode b_T_lift 308 = .ok (.iload 4, 2) := by decide +kernel
theorem d_T_lift_310 : decode b_T_lift 310 = .ok (.ifCond .ne 10, 3) := by decide +kernel
theorem d_T_lift_313 : decode b_T_lift 313 = .ok (.iload 7, 2) := by decide +kernel
theorem d_T_lift_315 : decode b_T_lift 315 = .ok (.istore 9, 2) := by decide +kernel
theorem d_T_lift_317 : decode b_T_lift 317 = .ok (.goto 20, 3) := by decide +kernel
theorem d_T_lift_320 : decode b_T_lift 320 = .ok (.aload_n 0, 1) := by decide +kernel
theorem d_T_lift_321 : decode b_T_lift 321 = .ok (.getfield 15, 3) := by decide +kernel
theorem d_T_lift_324 : decode b_T_lift 324 = .ok (.iload 4, 2) := by decide +kernel
theorem d_T_lift_326 : decode b_T_lift 326 = .ok (.iload 7, 2) := by decide +kernel
theorem d_T_lift_328 : decode b_T_lift 328 = .ok (.iastore, 1) := by decide +kernel
theorem d_T_lift_329 : decode b_T_lift 329 = .ok (.aload_n 0, 1) := by decide +kernel
theorem d_T_lift_330 : decode b_T_lift 330 = .ok (.getfield 15, 3) := by decide +kernel
theorem d_T_lift_333 : decode b_T_lift 333 = .ok (.iconst 0, 1) := by decide +kernel
theorem d_T_lift_334 : decode b_T_lift 334 = .ok (.iaload, 1) := by decide +kernel
theorem d_T_lift_335 : decode b_T_lift 335 = .ok (.istore 9, 2) := by decide +kernel
theorem d_T_lift_337 : decode b_T_lift 337 = .ok (.aload_n 0, 1) := by decide +kernel
theorem d_T_lift_338 : decode b_T_lift 338 = .ok (.getfield 15, 3) := by decide +kernel
theorem d_T_lift_341 : decode b_T_lift 341 = .ok (.iload_n 2, 1) := by decide +kernel
theorem d_T_lift_342 : decode b_T_lift 342 = .ok (.iload 8, 2) := by decide +kernel
theorem d_T_lift_344 : decode b_T_lift 344 = .ok (.iastore, 1) := by decide +kernel
theorem d_T_lift_345 : decode b_T_lift 345 = .ok (.aload_n 0, 1) := by decide +kernel
theorem d_T_lift_346 : decode b_T_lift 346 = .ok (.getfield 18, 3) := by decide +kernel
theorem d_T_lift_349 : decode b_T_lift 349 = .ok (.iload_n 2, 1) := by decide +kernel
theorem d_T_lift_350 : decode b_T_lift 350 = .ok (.iload 9, 2) := by decide +kernel
theorem d_T_lift_352 : decode b_T_lift 352 = .ok (.iastore, 1) := by decide +kernel
theorem d_T_lift_353 : decode b_T_lift 353 = .ok (.aload_n 0, 1) := by decide +kernel
theorem d_T_lift_354 : decode b_T_lift 354 = .ok (.iload_n 2, 1) := by decide +kernel
theorem d_T_lift_355 : decode b_T_lift 355 = .ok (.putfield 21, 3) := by decide +kernel
theorem d_T_lift_358 : decode b_T_lift 358 = .ok (.return_, 1) := by decide +kernel
theorem d_T_find_0 : decode b_T_find 0 = .ok (.aload_n 0, 1) := by decide +kernel
theorem d_T_find_1 : decode b_T_find 1 = .ok (.iload_n 1, 1) := by decide +kernel
theorem d_T_find_2 : decode b_T_find 2 = .ok (.invokevirtual 25, 3) := by decide +kernel
theorem d_T_find_5 : decode b_T_find 5 = .ok (.aload_n 0, 1) := by decide +kernel
theorem d_T_find_6 : decode b_T_find 6 = .ok (.getfield 21, 3) := by decide +kernel
theorem d_T_find_9 : decode b_T_find 9 = .ok (.ifCond .eq 23, 3) := by decide +kernel
theorem d_T_find_12 : decode b_T_find 12 = .ok (.aload_n 0, 1) := by decide +kernel
theorem d_T_find_13 : decode b_T_find 13 = .ok (.getfield 9, 3) := by decide +kernel
theorem d_T_find_16 : decode b_T_find 16 = .ok (.aload_n 0, 1) := by decide +kernel
theorem d_T_find_17 : decode b_T_find 17 = .ok (.getfield 21, 3) := by decide +kernel
theorem d_T_find_20 : decode b_T_find 20 = .ok (.iaload, 1) := by decide +kernel
theorem d_T_find_21 : decode b_T_find 21 = .ok (.iload_n 1, 1) := by decide +kernel
theorem d_T_find_22 : decode b_T_find 22 = .ok (.if_icmp .ne 10, 3) := by decide +kernel
theorem d_T_find_25 : decode b_T_find 25 = .ok (.aload_n 0, 1) := by decide +kernel
theorem d_T_find_26 : decode b_T_find 26 = .ok (.getfield 21, 3) := by decide +kernel
theorem d_T_find_29 : decode b_T_find 29 = .ok (.goto 4, 3) := by decide +kernel
theorem d_T_find_32 : decode b_T_find 32 = .ok (.iconst 0, 1) := by decide +kernel
theorem d_T_find_33 : decode b_T_find 33 = .ok (.ireturn, 1) := by decide +kernel
theorem d_T_add_0 : decode b_T_add 0 = .ok (.aload_n 0, 1) := by decide +kernel
theorem d_T_add_1 : decode b_T_add 1 = .ok (.getfield 9, 3) := by decide +kernel
theorem d_T_add_4 : decode b_T_add 4 = .ok (.iload_n 1, 1) := by decide +kernel
theorem d_T_add_5 : decode b_T_add 5 = .ok (.iload_n 2, 1) := by decide +kernel
theorem d_T_add_6 : decode b_T_add 6 = .ok (.iastore, 1) := by decide +kernel
theorem d_T_add_7 : decode b_T_add 7 = .ok (.aload_n 0, 1) := by decide +kernel
theorem d_T_add_8 : decode b_T_add 8 = .ok (.getfield 15, 3) := by decide +kernel
theorem d_T_add_11 : decode b_T_add 11 = .ok (.iload_n 1, 1) := by decide +kernel
theorem d_T_add_12 : decode b_T_add 12 = .ok (.iconst 0, 1) := by decide +kernel
theorem d_T_add_13 : decode b_T_add 13 = .ok (.iastore, 1) := by decide +kernel
theorem d_T_add_14 : decode b_T_add 14 = .ok (.aload_n 0, 1) := by decide +kernel
theorem d_T_add_15 : decode b_T_add 15 = .ok (.getfield 18, 3) := by decide +kernel
theorem d_T_add_18 : decode b_T_add 18 = .ok (.iload_n 1, 1) := by decide +kernel
theorem d_T_add_19 : decode b_T_add 19 = .ok (.iconst 0, 1) := by decide +kernel
theorem d_T_add_20 : decode b_T_add 20 = .ok (.iastore, 1) := by decide +kernel
theorem d_T_add_21 : decode b_T_add 21 = .ok (.aload_n 0, 1) := by decide +kernel
theorem d_T_add_22 : decode b_T_add 22 = .ok (.getfield 21, 3) := by decide +kernel
theorem d_T_add_25 : decode b_T_add 25 = .ok (.ifCond .eq 94, 3) := by decide +kernel
theorem d_T_add_28 : decode b_T_add 28 = .ok (.aload_n 0, 1) := by decide +kernel
theorem d_T_add_29 : decode b_T_add 29 = .ok (.iload_n 2, 1) := by decide +kernel
theorem d_T_add_30 : decode b_T_add 30 = .ok (.invokevirtual 25, 3) := by decide +kernel
theorem d_T_add_33 : decode b_T_add 33 = .ok (.iload_n 2, 1) := by decide +kernel
theorem d_T_add_34 : decode b_T_add 34 = .ok (.aload_n 0, 1) := by decide +kernel
theorem d_T_add_35 : decode b_T_add 35 = .ok (.getfield 9, 3) := by decide +kernel
theorem d_T_add_38 : decode b_T_add 38 = .ok (.aload_n 0, 1) := by decide +kernel
theorem d_T_add_39 : decode b_T_add 39 = .ok (.getfield 21, 3) := by decide +kernel
theorem d_T_add_42 : decode b_T_add 42 = .ok (.iaload, 1) := by decide +kernel
theorem d_T_add_43 : decode b_T_add 43 = .ok (.if_icmp .ge 41, 3) := by decide +kernel
theorem d_T_add_46 : decode b_T_add 46 = .ok (.aload_n 0, 1) := by decide +kernel
theorem d_T_add_47 : decode b_T_add 47 = .ok (.getfield 15, 3) := by decide +kernel
theorem d_T_add_50 : decode b_T_add 50 = .ok (.iload_n 1, 1) := by decide +kernel
theorem d_T_add_51 : decode b_T_add 51 = .ok (.aload_n 0, 1) := by decide +kernel
theorem d_T_add_52 : decode b_T_add 52 = .ok (.getfield 15, 3) := by decide +kernel
theorem d_T_add_55 : decode b_T_add 55 = .ok (.aload_n 0, 1) := by decide +kernel
theorem d_T_add_56 : decode b_T_add 56 = .ok (.getfield 21, 3) := by decide +kernel
theorem d_T_add_59 : decode b_T_add 59 = .ok (.iaload, 1) := by decide +kernel
theorem d_T_add_60 : decode b_T_add 60 = .ok (.iastore, 1) := by decide +kernel
theorem d_T_add_61 : decode b_T_add 61 = .ok (.aload_n 0, 1) := by decide +kernel
theorem d_T_add_62 : decode b_T_add 62 = .ok (.getfield 18, 3) := by decide +kernel
theorem d_T_add_65 : decode b_T_add 65 = .ok (.iload_n 1, 1) := by decide +kernel
theorem d_T_add_66 : decode b_T_add 66 = .ok (.aload_n 0, 1) := by decide +kernel
theorem d_T_add_67 : decode b_T_add 67 = .ok (.getfield 21, 3) := by decide +kernel
theorem d_T_add_70 : decode b_T_add 70 = .ok (.iastore, 1) := by decide +kernel
theorem d_T_add_71 : decode b_T_add 71 = .ok (.aload_n 0, 1) := by decide +kernel
theorem d_T_add_72 : decode b_T_add 72 = .ok (.getfield 15, 3) := by decide +kernel
theorem d_T_add_75 : decode b_T_add 75 = .ok (.aload_n 0, 1) := by decide +kernel
theorem d_T_add_76 : decode b_T_add 76 = .ok (.getfield 21, 3) := by decide +kernel
theorem d_T_add_79 : decode b_T_add 79 = .ok (.iconst 0, 1) := by decide +kernel
theorem d_T_add_80 : decode b_T_add 80 = .ok (.iastore, 1) := by decide +kernel
theorem d_T_add_81 : decode b_T_add 81 = .ok (.goto 38, 3) := by decide +kernel
theorem d_T_add_84 : decode b_T_add 84 = .ok (.aload_n 0, 1) := by decide +kernel
theorem d_T_add_85 : decode b_T_add 85 = .ok (.getfield 18, 3) := by decide +kernel
theorem d_T_add_88 : decode b_T_add 88 = .ok (.iload_n 1, 1) := by decide +kernel
theorem d_T_add_89 : decode b_T_add 89 = .ok (.aload_n 0, 1) := by decide +kernel
theorem d_T_add_90 : decode b_T_add 90 = .ok (.getfield 18, 3) := by decide +kernel
theorem d_T_add_93 : decode b_T_add 93 = .ok (.aload_n 0, 1) := by decide +kernel
theorem d_T_add_94 : decode b_T_add 94 = .ok (.getfield 21, 3) := by decide +kernel
theorem d_T_add_97 : decode b_T_add 97 = .ok (.iaload, 1) := by decide +kernel
theorem d_T_add_98 : decode b_T_add 98 = .ok (.iastore, 1) := by decide +kernel
theorem d_T_add_99 : decode b_T_add 99 = .ok (.aload_n 0, 1) := by decide +kernel
theorem d_T_add_100 : decode b_T_add 100 = .ok (.getfield 15, 3) := by decide +kernel
theorem d_T_add_103 : decode b_T_add 103 = .ok (.iload_n 1, 1) := by decide +kernel
theorem d_T_add_104 : decode b_T_add 104 = .ok (.aload_n 0, 1) := by decide +kernel
theorem d_T_add_105 : decode b_T_add 105 = .ok (.getfield 21, 3) := by decide +kernel
theorem d_T_add_108 : decode b_T_add 108 = .ok (.iastore, 1) := by decide +kernel
theorem d_T_add_109 : decode b_T_add 109 = .ok (.aload_n 0, 1) := by decide +kernel
theorem d_T_add_110 : decode b_T_add 110 = .ok (.getfield 18, 3) := by decide +kernel
theorem d_T_add_113 : decode b_T_add 113 = .ok (.aload_n 0, 1) := by decide +kernel
theorem d_T_add_114 : decode b_T_add 114 = .ok (.getfield 21, 3) := by decide +kernel
theorem d_T_add_117 : decode b_T_add 117 = .ok (.iconst 0, 1) := by decide +kernel
theorem d_T_add_118 : decode b_T_add 118 = .ok (.iastore, 1) := by decide +kernel
theorem d_T_add_119 : decode b_T_add 119 = .ok (.aload_n 0, 1) := by decide +kernel
theorem d_T_add_120 : decode b_T_add 120 = .ok (.iload_n 1, 1) := by decide +kernel
theorem d_T_add_121 : decode b_T_add 121 = .ok (.putfield 21, 3) := by decide +kernel
theorem d_T_add_124 : decode b_T_add 124 = .ok (.return_, 1) := by decide +kernel
theorem d_T_cut_0 : decode b_T_cut 0 = .ok (.aload_n 0, 1) := by decide +kernel
theorem d_T_cut_1 : decode b_T_cut 1 = .ok (.getfield 21, 3) := by decide +kernel
theorem d_T_cut_4 : decode b_T_cut 4 = .ok (.istore_n 1, 1) := by decide +kernel
theorem d_T_cut_5 : decode b_T_cut 5 = .ok (.aload_n 0, 1) := by decide +kernel
theorem d_T_cut_6 : decode b_T_cut 6 = .ok (.getfield 18, 3) := by decide +kernel
theorem d_T_cut_9 : decode b_T_cut 9 = .ok (.iload_n 1, 1) := by decide +kernel
theorem d_T_cut_10 : decode b_T_cut 10 = .ok (.iaload, 1) := by decide +kernel
theorem d_T_cut_11 : decode b_T_cut 11 = .ok (.istore_n 2, 1) := by decide +kernel
theorem d_T_cut_12 : decode b_T_cut 12 = .ok (.aload_n 0, 1) := by decide +kernel
theorem d_T_cut_13 : decode b_T_cut 13 = .ok (.aload_n 0, 1) := by decide +kernel
theorem d_T_cut_14 : decode b_T_cut 14 = .ok (.getfield 15, 3) := by decide +kernel
theorem d_T_cut_17 : decode b_T_cut 17 = .ok (.iload_n 1, 1) := by decide +kernel
theorem d_T_cut_18 : decode b_T_cut 18 = .ok (.iaload, 1) := by decide +kernel
theorem d_T_cut_19 : decode b_T_cut 19 = .ok (.putfield 21, 3) := by decide +kernel
theorem d_T_cut_22 : decode b_T_cut 22 = .ok (.aload_n 0, 1) := by decide +kernel
theorem d_T_cut_23 : decode b_T_cut 23 = .ok (.getfield 21, 3) := by decide +kernel
theorem d_T_cut_26 : decode b_T_cut 26 = .ok (.ifCond .ne 9, 3) := by decide +kernel
theorem d_T_cut_29 : decode b_T_cut 29 = .ok (.aload_n 0, 1) := by decide +kernel
theorem d_T_cut_30 : decode b_T_cut 30 = .ok (.iload_n 2, 1) := by decide +kernel
theorem d_T_cut_31 : decode b_T_cut 31 = .ok (.putfield 21, 3) := by decide +kernel
theorem d_T_cut_34 : decode b_T_cut 34 = .ok (.return_, 1) := by decide +kernel
theorem d_T_cut_35 : decode b_T_cut 35 = .ok (.aload_n 0, 1) := by decide +kernel
theorem d_T_cut_36 : decode b_T_cut 36 = .ok (.aload_n 0, 1) := by decide +kernel
theorem d_T_cut_37 : decode b_T_cut 37 = .ok (.getfield 9, 3) := by decide +kernel
theorem d_T_cut_40 : decode b_T_cut 40 = .ok (.iload_n 1, 1) := by decide +kernel
theorem d_T_cut_41 : decode b_T_cut 41 = .ok (.iaload, 1) := by decide +kernel
theorem d_T_cut_42 : decode b_T_cut 42 = .ok (.invokevirtual 25, 3) := by decide +kernel
theorem d_T_cut_45 : decode b_T_cut 45 = .ok (.aload_n 0, 1) := by decide +kernel
theorem d_T_cut_46 : decode b_T_cut 46 = .ok (.getfield 18, 3) := by decide +kernel
theorem d_T_cut_49 : decode b_T_cut 49 = .ok (.aload_n 0, 1) := by decide +kernel
theorem d_T_cut_50 : decode b_T_cut 50 = .ok (.getfield 21, 3) := by decide +kernel
theorem d_T_cut_53 : decode b_T_cut 53 = .ok (.iload_n 2, 1) := by decide +kernel
theorem d_T_cut_54 : decode b_T_cut 54 = .ok (.iastore, 1) := by decide +kernel
theorem d_T_cut_55 : decode b_T_cut 55 = .ok (.return_, 1) := by decide +kernel
theorem d_T_clear_0 : decode b_T_clear 0 = .ok (.aload_n 0, 1) := by decide +kernel
theorem d_T_clear_1 : decode b_T_clear 1 = .ok (.iconst 0, 1) := by decide +kernel
theorem d_T_clear_2 : decode b_T_clear 2 = .ok (.putfield 21, 3) := by decide +kernel
theorem d_T_clear_5 : decode b_T_clear 5 = .ok (.return_, 1) := by decide +kernel
end
section
/-! DECODE ROWS (printed by gen/base.py) -/
theorem d_X_init_0 : decode b_X_init 0 = .ok (.aload_n 0, 1) := by decide +kernel
theorem d_X_init_1 : decode b_X_init 1 = .ok (.invokespecial 1, 3) := by decide +kernel
theorem d_X_init_4 : decode b_X_init 4 = .ok (.aload_n 0, 1) := by decide +kernel
theorem d_X_init_5 : decode b_X_init 5 = .ok (.new 7, 3) := by decide +kernel
theorem d_X_init_8 : decode b_X_init 8 = .ok (.dup, 1) := by decide +kernel
theorem d_X_init_9 : decode b_X_init 9 = .ok (.invokespecial 9, 3) := by decide +kernel
theorem d_X_init_12 : decode b_X_init 12 = .ok (.putfield 10, 3) := by decide +kernel
theorem d_X_init_15 : decode b_X_init 15 = .ok (.aload_n 0, 1) := by decide +kernel
theorem d_X_init_16 : decode b_X_init 16 = .ok (.sipush 4097, 3) := by decide +kernel
theorem d_X_init_19 : decode b_X_init 19 = .ok (.newarray .int, 2) := by decide +kernel
theorem d_X_init_21 : decode b_X_init 21 = .ok (.putfield 16, 3) := by decide +kernel
theorem d_X_init_24 : decode b_X_init 24 = .ok (.aload_n 0, 1) := by decide +kernel
theorem d_X_init_25 : decode b_X_init 25 = .ok (.sipush 4097, 3) := by decide +kernel
theorem d_X_init_28 : decode b_X_init 28 = .ok (.newarray .int, 2) := by decide +kernel
theorem d_X_init_30 : decode b_X_init 30 = .ok (.putfield 20, 3) := by decide +kernel
theorem d_X_init_33 : decode b_X_init 33 = .ok (.aload_n 0, 1) := by decide +kernel
theorem d_X_init_34 : decode b_X_init 34 = .ok (.sipush 4097, 3) := by decide +kernel
theorem d_X_init_37 : decode b_X_init 37 = .ok (.newarray .int, 2) := by decide +kernel
theorem d_X_init_39 : decode b_X_init 39 = .ok (.putfield 23, 3) := by decide +kernel
theorem d_X_init_42 : decode b_X_init 42 = .ok (.return_, 1) := by decide +kernel
theorem d_X_place_0 : decode b_X_place 0 = .ok (.aload_n 0, 1) := by decide +kernel
theorem d_X_place_1 : decode b_X_place 1 = .ok (.getfield 26, 3) := by decide +kernel
theorem d_X_place_4 : decode b_X_place 4 = .ok (.ifCond .eq 20, 3) := by decide +kernel
theorem d_X_place_7 : decode b_X_place 7 = .ok (.aload_n 0, 1) := by decide +kernel
theorem d_X_place_8 : decode b_X_place 8 = .ok (.getfield 26, 3) := by decide +kernel
theorem d_X_place_11 : decode b_X_place 11 = .ok (.istore_n 1, 1) := by decide +kernel
theorem d_X_place_12 : decode b_X_place 12 = .ok (.aload_n 0, 1) := by decide +kernel
theorem d_X_place_13 : decode b_X_place 13 = .ok (.aload_n 0, 1) := by decide +kernel
theorem d_X_place_14 : decode b_X_place 14 = .ok (.getfield 23, 3) := by decide +kernel
theorem d_X_place_17 : decode b_X_place 17 = .ok (.iload_n 1, 1) := by decide +kernel
theorem d_X_place_18 : decode b_X_place 18 = .ok (.iaload, 1) := by decide +kernel
theorem d_X_place_19 : decode b_X_place 19 = .ok (.putfield 26, 3) := by decide +kernel
theorem d_X_place_22 : decode b_X_place 22 = .ok (.iload_n 1, 1) := by decide +kernel
theorem d_X_place_23 : decode b_X_place 23 = .ok (.ireturn, 1) := by decide +kernel
theorem d_X_place_24 : decode b_X_place 24 = .ok (.aload_n 0, 1) := by decide +kernel
theorem d_X_place_25 : decode b_X_place 25 = .ok (.dup, 1) := by decide +kernel
theorem d_X_place_26 : decode b_X_place 26 = .ok (.getfield 30, 3) := by decide +kernel
theorem d_X_place_29 : decode b_X_place 29 = .ok (.iconst 1, 1) := by decide +kernel
theorem d_X_place_30 : decode b_X_place 30 = .ok (.iadd, 1) := by decide +kernel
theorem d_X_place_31 : decode b_X_place 31 = .ok (.putfield 30, 3) := by decide +kernel
theorem d_X_place_34 : decode b_X_place 34 = .ok (.aload_n 0, 1) := by decide +kernel
theorem d_X_place_35 : decode b_X_place 35 = .ok (.getfield 30, 3) := by decide +kernel
theorem d_X_place_38 : decode b_X_place 38 = .ok (.ireturn, 1) := by decide +kernel
theorem d_X_loose_0 : decode b_X_loose 0 = .ok (.aload_n 0, 1) := by decide +kernel
theorem d_X_loose_1 : decode b_X_loose 1 = .ok (.getfield 20, 3) := by decide +kernel
theorem d_X_loose_4 : decode b_X_loose 4 = .ok (.iload_n 1, 1) := by decide +kernel
theorem d_X_loose_5 : decode b_X_loose 5 = .ok (.iaload, 1) := by decide +kernel
theorem d_X_loose_6 : decode b_X_loose 6 = .ok (.istore_n 2, 1) := by decide +kernel
theorem d_X_loose_7 : decode b_X_loose 7 = .ok (.aload_n 0, 1) := by decide +kernel
theorem d_X_loose_8 : decode b_X_loose 8 = .ok (.getfield 23, 3) := by decide +kernel
theorem d_X_loose_11 : decode b_X_loose 11 = .ok (.iload_n 1, 1) := by decide +kernel
theorem d_X_loose_12 : decode b_X_loose 12 = .ok (.iaload, 1) := by decide +kernel
theorem d_X_loose_13 : decode b_X_loose 13 = .ok (.istore_n 3, 1) := by decide +kernel
theorem d_X_loose_14 : decode b_X_loose 14 = .ok (.iload_n 2, 1) := by decide +kernel
theorem d_X_loose_15 : decode b_X_loose 15 = .ok (.ifCond .ne 11, 3) := by decide +kernel
theorem d_X_loose_18 : decode b_X_loose 18 = .ok (.aload_n 0, 1) := by decide +kernel
theorem d_X_loose_19 : decode b_X_loose 19 = .ok (.iload_n 3, 1) := by decide +kernel
theorem d_X_loose_20 : decode b_X_loose 20 = .ok (.putfield 33, 3) := by decide +kernel
theorem d_X_loose_23 : decode b_X_loose 23 = .ok (.goto 10, 3) := by decide +kernel
theorem d_X_loose_26 : decode b_X_loose 26 = .ok (.aload_n 0, 1) := by decide +kernel
theorem d_X_loose_27 : decode b_X_loose 27 = .ok (.getfield 23, 3) := by decide +kernel
theorem d_X_loose_30 : decode b_X_loose 30 = .ok (.iload_n 2, 1) := by decide +kernel
theorem d_X_loose_31 : decode b_X_loose 31 = .ok (.iload_n 3, 1) := by decide +kernel
theorem d_X_loose_32 : decode b_X_loose 32 = .ok (.iastore, 1) := by decide +kernel
theorem d_X_loose_33 : decode b_X_loose 33 = .ok (.iload_n 3, 1) := by decide +kernel
theorem d_X_loose_34 : decode b_X_loose 34 = .ok (.ifCond .ne 11, 3) := by decide +kernel
theorem d_X_loose_37 : decode b_X_loose 37 = .ok (.aload_n 0, 1) := by decide +kernel
theorem d_X_loose_38 : decode b_X_loose 38 = .ok (.iload_n 2, 1) := by decide +kernel
theorem d_X_loose_39 : decode b_X_loose 39 = .ok (.putfield 36, 3) := by decide +kernel
theorem d_X_loose_42 : decode b_X_loose 42 = .ok (.goto 10, 3) := by decide +kernel
theorem d_X_loose_45 : decode b_X_loose 45 = .ok (.aload_n 0, 1) := by decide +kernel
theorem d_X_loose_46 : decode b_X_loose 46 = .ok (.getfield 20, 3) := by decide +kernel
theorem d_X_loose_49 : decode b_X_loose 49 = .ok (.iload_n 3, 1) := by decide +kernel
theorem d_X_loose_50 : decode b_X_loose 50 = .ok (.iload_n 2, 1) := by decide +kernel
theorem d_X_loose_51 : decode b_X_loose 51 = .ok (.iastore, 1) := by decide +kernel
theorem d_X_loose_52 : decode b_X_loose 52 = .ok (.return_, 1) := by decide +kernel
theorem d_X_fasten_0 : decode b_X_fasten 0 = .ok (.aload_n 0, 1) := by decide +kernel
theorem d_X_fasten_1 : decode b_X_fasten 1 = .ok (.getfield 20, 3) := by decide +kernel
theorem d_X_fasten_4 : decode b_X_fasten 4 = .ok (.iload_n 1, 1) := by decide +kernel
theorem d_X_fasten_5 : decode b_X_fasten 5 = .ok (.iload_n 2, 1) := by decide +kernel
theorem d_X_fasten_6 : decode b_X_fasten 6 = .ok (.ifCond .eq 7, 3) := by decide +kernel
theorem d_X_fasten_9 : decode b_X_fasten 9 = .ok (.iconst 0, 1) := by decide +kernel
theorem d_X_fasten_10 : decode b_X_fasten 10 = .ok (.goto 7, 3) := by decide +kernel
theorem d_X_fasten_13 : decode b_X_fasten 13 = .ok (.aload_n 0, 1) := by decide +kernel
theorem d_X_fasten_14 : decode b_X_fasten 14 = .ok (.getfield 36, 3) := by decide +kernel
theorem d_X_fasten_17 : decode b_X_fasten 17 = .ok (.iastore, 1) := by decide +kernel
theorem d_X_fasten_18 : decode b_X_fasten 18 = .ok (.aload_n 0, 1) := by decide +kernel
theorem d_X_fasten_19 : decode b_X_fasten 19 = .ok (.getfield 23, 3) := by decide +kernel
theorem d_X_fasten_22 : decode b_X_fasten 22 = .ok (.iload_n 1, 1) := by decide +kernel
theorem d_X_fasten_23 : decode b_X_fasten 23 = .ok (.iload_n 2, 1) := by decide +kernel
theorem d_X_fasten_24 : decode b_X_fasten 24 = .ok (.ifCond .eq 10, 3) := by decide +kernel
theorem d_X_fasten_27 : decode b_X_fasten 27 = .ok (.aload_n 0, 1) := by decide +kernel
theorem d_X_fasten_28 : decode b_X_fasten 28 = .ok (.getfield 33, 3) := by decide +kernel
theorem d_X_fasten_31 : decode b_X_fasten 31 = .ok (.goto 4, 3) := by decide +kernel
theorem d_X_fasten_34 : decode b_X_fasten 34 = .ok (.iconst 0, 1) := by decide +kernel
theorem d_X_fasten_35 : decode b_X_fasten 35 = .ok (.iastore, 1) := by decide +kernel
theorem d_X_fasten_36 : decode b_X_fasten 36 = .ok (.iload_n 2, 1) := by decide +kernel
theorem d_X_fasten_37 : decode b_X_fasten 37 = .ok (.ifCond .eq 40, 3) := by decide +kernel
theorem d_X_fasten_40 : decode b_X_fasten 40 = .ok (.aload_n 0, 1) := by decide +kernel
theorem d_X_fasten_41 : decode b_X_fasten 41 = .ok (.getfield 33, 3) := by decide +kernel
theorem d_X_fasten_44 : decode b_X_fasten 44 = .ok (.ifCond .eq 13, 3) := by decide +kernel
theorem d_X_fasten_47 : decode b_X_fasten 47 = .ok (.aload_n 0, 1) := by decide +kernel
theorem d_X_fasten_48 : decode b_X_fasten 48 = .ok (.getfield 20, 3) := by decide +kernel
theorem d_X_fasten_51 : decode b_X_fasten 51 = .ok (.aload_n 0, 1) := by decide +kernel
theorem d_X_fasten_52 : decode b_X_fasten 52 = .ok (.getfield 33, 3) := by decide +kernel
theorem d_X_fasten_55 : decode b_X_fasten 55 = .ok (.iload_n 1, 1) := by decide +kernel
theorem d_X_fasten_56 : decode b_X_fasten 56 = .ok (.iastore, 1) := by decide +kernel
theorem d_X_fasten_57 : decode b_X_fasten 57 = .ok (.aload_n 0, 1) := by decide +kernel
theorem d_X_fasten_58 : decode b_X_fasten 58 = .ok (.iload_n 1, 1) := by decide +kernel
theorem d_X_fasten_59 : decode b_X_fasten 59 = .ok (.putfield 33, 3) := by decide +kernel
theorem d_X_fasten_62 : decode b_X_fasten 62 = .ok (.aload_n 0, 1) := by decide +kernel
theorem d_X_fasten_63 : decode b_X_fasten 63 = .ok (.getfield 36, 3) := by decide +kernel
theorem d_X_fasten_66 : decode b_X_fasten 66 = .ok (.ifCond .ne 45, 3) := by decide +kernel
theorem d_X_fasten_69 : decode b_X_fasten 69 = .ok (.aload_n 0, 1) := by decide +kernel
theorem d_X_fasten_70 : decode b_X_fasten 70 = .ok (.iload_n 1, 1) := by decide +kernel
theorem d_X_fasten_71 : decode b_X_fasten 71 = .ok (.putfield 36, 3) := by decide +kernel
theorem d_X_fasten_74 : decode b_X_fasten 74 = .ok (.goto 37, 3) := by decide +kernel
theorem d_X_fasten_77 : decode b_X_fasten 77 = .ok (.aload_n 0, 1) := by decide +kernel
theorem d_X_fasten_78 : decode b_X_fasten 78 = .ok (.getfield 36, 3) := by decide +kernel
theorem d_X_fasten_81 : decode b_X_fasten 81 = .ok (.ifCond .eq 13, 3) := by decide +kernel
theorem d_X_fasten_84 : decode b_X_fasten 84 = .ok (.aload_n 0, 1) := by decide +kernel
theorem d_X_fasten_85 : decode b_X_fasten 85 = .ok (.getfield 23, 3) := by decide +kernel
theorem d_X_fasten_88 : decode b_X_fasten 88 = .ok (.aload_n 0, 1) := by decide +kernel
theorem d_X_fasten_89 : decode b_X_fasten 89 = .ok (.getfield 36, 3) := by decide +kernel
theorem d_X_fasten_92 : decode b_X_fasten 92 = .ok (.iload_n 1, 1) := by decide +kernel
theorem d_X_fasten_93 : decode b_X_fasten 93 = .ok (.iastore, 1) := by decide +kernel
theorem d_X_fasten_94 : decode b_X_fasten 94 = .ok (.aload_n 0, 1) := by decide +kernel
theorem d_X_fasten_95 : decode b_X_fasten 95 = .ok (.iload_n 1, 1) := by decide +kernel
theorem d_X_fasten_96 : decode b_X_fasten 96 = .ok (.putfield 36, 3) := by decide +kernel
theorem d_X_fasten_99 : decode b_X_fasten 99 = .ok (.aload_n 0, 1) := by decide +kernel
theorem d_X_fasten_100 : decode b_X_fasten 100 = .ok (.getfield 33, 3) := by decide +kernel
theorem d_X_fasten_103 : decode b_X_fasten 103 = .ok (.ifCond .ne 8, 3) := by decide +kernel
theorem d_X_fasten_106 : decode b_X_fasten 106 = .ok (.aload_n 0, 1) := by decide +kernel
theorem d_X_fasten_107 : decode b_X_fasten 107 = .ok (.iload_n 1, 1) := by decide +kernel
theorem d_X_fasten_108 : decode b_X_fasten 108 = .ok (.putfield 33, 3) := by decide +kernel
theorem d_X_fasten_111 : decode b_X_fasten 111 = .ok (.return_, 1) := by decide +kernel
theorem d_X_enter_0 : decode b_X_enter 0 = .ok (.aload_n 0, 1) := by decide +kernel
theorem d_X_enter_1 : decode b_X_enter 1 = .ok (.invokevirtual 39, 3) := by decide +kernel
theorem d_X_enter_4 : decode b_X_enter 4 = .ok (.istore 4, 2) := by decide +kernel
theorem d_X_enter_6 : decode b_X_enter 6 = .ok (.aload_n 0, 1) := by decide +kernel
theorem d_X_enter_7 : decode b_X_enter 7 = .ok (.getfield 10, 3) := by decide +kernel
theorem d_X_enter_10 : decode b_X_enter 10 = .ok (.iload 4, 2) := by decide +kernel
theorem d_X_enter_12 : decode b_X_enter 12 = .ok (.iload_n 1, 1) := by decide +kernel
theorem d_X_enter_13 : decode b_X_enter 13 = .ok (.invokevirtual 43, 3) := by decide +kernel
theorem d_X_enter_16 : decode b_X_enter 16 = .ok (.aload_n 0, 1) := by decide +kernel
theorem d_X_enter_17 : decode b_X_enter 17 = .ok (.getfield 16, 3) := by decide +kernel
theorem d_X_enter_20 : decode b_X_enter 20 = .ok (.iload 4, 2) := by decide +kernel
theorem d_X_enter_22 : decode b_X_enter 22 = .ok (.iload_n 2, 1) := by decide +kernel
theorem d_X_enter_23 : decode b_X_enter 23 = .ok (.iastore, 1) := by decide +kernel
theorem d_X_enter_24 : decode b_X_enter 24 = .ok (.aload_n 0, 1) := by decide +kernel
theorem d_X_enter_25 : decode b_X_enter 25 = .ok (.iload 4, 2) := by decide +kernel
theorem d_X_enter_27 : decode b_X_enter 27 = .ok (.iload_n 3, 1) := by decide +kernel
theorem d_X_enter_28 : decode b_X_enter 28 = .ok (.invokevirtual 47, 3) := by decide +kernel
theorem d_X_enter_31 : decode b_X_enter 31 = .ok (.aload_n 0, 1) := by decide +kernel
theorem d_X_enter_32 : decode b_X_enter 32 = .ok (.dup, 1) := by decide +kernel
theorem d_X_enter_33 : decode b_X_enter 33 = .ok (.getfield 51, 3) := by decide +kernel
theorem d_X_enter_36 : decode b_X_enter 36 = .ok (.iconst 1, 1) := by decide +kernel
theorem d_X_enter_37 : decode b_X_enter 37 = .ok (.iadd, 1) := by decide +kernel
theorem d_X_enter_38 : decode b_X_enter 38 = .ok (.putfield 51, 3) := by decide +kernel
theorem d_X_enter_41 : decode b_X_enter 41 = .ok (.iconst 0, 1) := by decide +kernel
theorem d_X_enter_42 : decode b_X_enter 42 = .ok (.ireturn, 1) := by decide +kernel
theorem d_X_change_0 : decode b_X_change 0 = .ok (.aload_n 0, 1) := by decide +kernel
theorem d_X_change_1 : decode b_X_change 1 = .ok (.getfield 16, 3) := by decide +kernel
theorem d_X_change_4 : decode b_X_change 4 = .ok (.iload_n 1, 1) := by decide +kernel
theorem d_X_change_5 : decode b_X_change 5 = .ok (.iaload, 1) := by decide +kernel
theorem d_X_change_6 : decode b_X_change 6 = .ok (.istore_n 3, 1) := by decide +kernel
theorem d_X_change_7 : decode b_X_change 7 = .ok (.aload_n 0, 1) := by decide +kernel
theorem d_X_change_8 : decode b_X_change 8 = .ok (.getfield 16, 3) := by decide +kernel
theorem d_X_change_11 : decode b_X_change 11 = .ok (.iload_n 1, 1) := by decide +kernel
theorem d_X_change_12 : decode b_X_change 12 = .ok (.iload_n 2, 1) := by decide +kernel
theorem d_X_change_13 : decode b_X_change 13 = .ok (.iastore, 1) := by decide +kernel
theorem d_X_change_14 : decode b_X_change 14 = .ok (.iload_n 3, 1) := by decide +kernel
theorem d_X_change_15 : decode b_X_change 15 = .ok (.ireturn, 1) := by decide +kernel
theorem d_X_put_0 : decode b_X_put 0 = .ok (.aload_n 0, 1) := by decide +kernel
theorem d_X_put_1 : decode b_X_put 1 = .ok (.getfield 10, 3) := by decide +kernel
theorem d_X_put_4 : decode b_X_put 4 = .ok (.iload_n 1, 1) := by decide +kernel
theorem d_X_put_5 : decode b_X_put 5 = .ok (.invokevirtual 54, 3) := by decide +kernel
theorem d_X_put_8 : decode b_X_put 8 = .ok (.istore_n 3, 1) := by decide +kernel
theorem d_X_put_9 : decode b_X_put 9 = .ok (.iload_n 3, 1) := by decide +kernel
theorem d_X_put_10 : decode b_X_put 10 = .ok (.ifCond .ne 13, 3) := by decide +kernel
theorem d_X_put_13 : decode b_X_put 13 = .ok (.aload_n 0, 1) := by decide +kernel
theorem d_X_put_14 : decode b_X_put 14 = .ok (.iload_n 1, 1) := by decide +kernel
theorem d_X_put_15 : decode b_X_put 15 = .ok (.iload_n 2, 1) := by decide +kernel
theorem d_X_put_16 : decode b_X_put 16 = .ok (.iconst 0, 1) := by decide +kernel
theorem d_X_put_17 : decode b_X_put 17 = .ok (.invokevirtual 58, 3) := by decide +kernel
theorem d_X_put_20 : decode b_X_put 20 = .ok (.goto 9, 3) := by decide +kernel
theorem d_X_put_23 : decode b_X_put 23 = .ok (.aload_n 0, 1) := by decide +kernel
theorem d_X_put_24 : decode b_X_put 24 = .ok (.iload_n 3, 1) := by decide +kernel
theorem d_X_put_25 : decode b_X_put 25 = .ok (.iload_n 2, 1) := by decide +kernel
theorem d_X_put_26 : decode b_X_put 26 = .ok (.invokevirtual 62, 3) := by decide +kernel
theorem d_X_put_29 : decode b_X_put 29 = .ok (.ireturn, 1) := by decide +kernel
theorem d_X_puts_0 : decode b_X_puts 0 = .ok (.aload_n 0, 1) := by decide +kernel
theorem d_X_puts_1 : decode b_X_puts 1 = .ok (.getfield 10, 3) := by decide +kernel
theorem d_X_puts_4 : decode b_X_puts 4 = .ok (.iload_n 1, 1) := by decide +kernel
theorem d_X_puts_5 : decode b_X_puts 5 = .ok (.invokevirtual 54, 3) := by decide +kernel
theorem d_X_puts_8 : decode b_X_puts 8 = .ok (.istore 4, 2) := by decide +kernel
theorem d_X_puts_10 : decode b_X_puts 10 = .ok (.iload 4, 2) := by decide +kernel
theorem d_X_puts_12 : decode b_X_puts 12 = .ok (.ifCond .ne 11, 3) := by decide +kernel
theorem d_X_puts_15 : decode b_X_puts 15 = .ok (.aload_n 0, 1) := by decide +kernel
theorem d_X_puts_16 : decode b_X_puts 16 = .ok (.iload_n 1, 1) := by decide +kernel
theorem d_X_puts_17 : decode b_X_puts 17 = .ok (.iload_n 2, 1) := by decide +kernel
theorem d_X_puts_18 : decode b_X_puts 18 = .ok (.iload_n 3, 1) := by decide +kernel
theorem d_X_puts_19 : decode b_X_puts 19 = .ok (.invokevirtual 58, 3) := by decide +kernel
theorem d_X_puts_22 : decode b_X_puts 22 = .ok (.ireturn, 1) := by decide +kernel
theorem d_X_puts_23 : decode b_X_puts 23 = .ok (.aload_n 0, 1) := by decide +kernel
theorem d_X_puts_24 : decode b_X_puts 24 = .ok (.iload 4, 2) := by decide +kernel
theorem d_X_puts_26 : decode b_X_puts 26 = .ok (.invokevirtual 66, 3) := by decide +kernel
theorem d_X_puts_29 : decode b_X_puts 29 = .ok (.aload_n 0, 1) := by decide +kernel
theorem d_X_puts_30 : decode b_X_puts 30 = .ok (.iload 4, 2) := by decide +kernel
theorem d_X_puts_32 : decode b_X_puts 32 = .ok (.iload_n 3, 1) := by decide +kernel
theorem d_X_puts_33 : decode b_X_puts 33 = .ok (.invokevirtual 47, 3) := by decide +kernel
theorem d_X_puts_36 : decode b_X_puts 36 = .ok (.aload_n 0, 1) := by decide +kernel
theorem d_X_puts_37 : decode b_X_puts 37 = .ok (.iload 4, 2) := by decide +kernel
theorem d_X_puts_39 : decode b_X_puts 39 = .ok (.iload_n 2, 1) := by decide +kernel
theorem d_X_puts_40 : decode b_X_puts 40 = .ok (.invokevirtual 62, 3) := by decide +kernel
theorem d_X_puts_43 : decode b_X_puts 43 = .ok (.ireturn, 1) := by decide +kernel
theorem d_X_putFirst_0 : decode b_X_putFirst 0 = .ok (.aload_n 0, 1) := by decide +kernel
theorem d_X_putFirst_1 : decode b_X_putFirst 1 = .ok (.iload_n 1, 1) := by decide +kernel
theorem d_X_putFirst_2 : decode b_X_putFirst 2 = .ok (.iload_n 2, 1) := by decide +kernel
theorem d_X_putFirst_3 : decode b_X_putFirst 3 = .ok (.iconst 1, 1) := by decide +kernel
theorem d_X_putFirst_4 : decode b_X_putFirst 4 = .ok (.invokevirtual 70, 3) := by decide +kernel
theorem d_X_putFirst_7 : decode b_X_putFirst 7 = .ok (.ireturn, 1) := by decide +kernel
theorem d_X_putLast_0 : decode b_X_putLast 0 = .ok (.aload_n 0, 1) := by decide +kernel
theorem d_X_putLast_1 : decode b_X_putLast 1 = .ok (.iload_n 1, 1) := by decide +kernel
theorem d_X_putLast_2 : decode b_X_putLast 2 = .ok (.iload_n 2, 1) := by decide +kernel
theorem d_X_putLast_3 : decode b_X_putLast 3 = .ok (.iconst 0, 1) := by decide +kernel
theorem d_X_putLast_4 : decode b_X_putLast 4 = .ok (.invokevirtual 70, 3) := by decide +kernel
theorem d_X_putLast_7 : decode b_X_putLast 7 = .ok (.ireturn, 1) := by decide +kernel
theorem d_X_touch_0 : decode b_X_touch 0 = .ok (.aload_n 0, 1) := by decide +kernel
theorem d_X_touch_1 : decode b_X_touch 1 = .ok (.getfield 10, 3) := by decide +kernel
theorem d_X_touch_4 : decode b_X_touch 4 = .ok (.iload_n 1, 1) := by decide +kernel
theorem d_X_touch_5 : decode b_X_touch 5 = .ok (.invokevirtual 54, 3) := by decide +kernel
theorem d_X_touch_8 : decode b_X_touch 8 = .ok (.istore_n 3, 1) := by decide +kernel
theorem d_X_touch_9 : decode b_X_touch 9 = .ok (.iload_n 3, 1) := by decide +kernel
theorem d_X_touch_10 : decode b_X_touch 10 = .ok (.ifCond .ne 5, 3) := by decide +kernel
theorem d_X_touch_13 : decode b_X_touch 13 = .ok (.iconst 0, 1) := by decide +kernel
theorem d_X_touch_14 : decode b_X_touch 14 = .ok (.ireturn, 1) := by decide +kernel
theorem d_X_touch_15 : decode b_X_touch 15 = .ok (.aload_n 0, 1) := by decide +kernel
theorem d_X_touch_16 : decode b_X_touch 16 = .ok (.iload_n 3, 1) := by decide +kernel
theorem d_X_touch_17 : decode b_X_touch 17 = .ok (.invokevirtual 66, 3) := by decide +kernel
theorem d_X_touch_20 : decode b_X_touch 20 = .ok (.aload_n 0, 1) := by decide +kernel
theorem d_X_touch_21 : decode b_X_touch 21 = .ok (.iload_n 3, 1) := by decide +kernel
theorem d_X_touch_22 : decode b_X_touch 22 = .ok (.iload_n 2, 1) := by decide +kernel
theorem d_X_touch_23 : decode b_X_touch 23 = .ok (.invokevirtual 47, 3) := by decide +kernel
theorem d_X_touch_26 : decode b_X_touch 26 = .ok (.aload_n 0, 1) := by decide +kernel
theorem d_X_touch_27 : decode b_X_touch 27 = .ok (.getfield 16, 3) := by decide +kernel
theorem d_X_touch_30 : decode b_X_touch 30 = .ok (.iload_n 3, 1) := by decide +kernel
theorem d_X_touch_31 : decode b_X_touch 31 = .ok (.iaload, 1) := by decide +kernel
theorem d_X_touch_32 : decode b_X_touch 32 = .ok (.ireturn, 1) := by decide +kernel
theorem d_X_touchFirst_0 : decode b_X_touchFirst 0 = .ok (.aload_n 0, 1) := by decide +kernel
theorem d_X_touchFirst_1 : decode b_X_touchFirst 1 = .ok (.iload_n 1, 1) := by decide +kernel
theorem d_X_touchFirst_2 : decode b_X_touchFirst 2 = .ok (.iconst 1, 1) := by decide +kernel
theorem d_X_touchFirst_3 : decode b_X_touchFirst 3 = .ok (.invokevirtual 73, 3) := by decide +kernel
theorem d_X_touchFirst_6 : decode b_X_touchFirst 6 = .ok (.ireturn, 1) := by decide +kernel
theorem d_X_touchLast_0 : decode b_X_touchLast 0 = .ok (.aload_n 0, 1) := by decide +kernel
theorem d_X_touchLast_1 : decode b_X_touchLast 1 = .ok (.iload_n 1, 1) := by decide +kernel
theorem d_X_touchLast_2 : decode b_X_touchLast 2 = .ok (.iconst 0, 1) := by decide +kernel
theorem d_X_touchLast_3 : decode b_X_touchLast 3 = .ok (.invokevirtual 73, 3) := by decide +kernel
theorem d_X_touchLast_6 : decode b_X_touchLast 6 = .ok (.ireturn, 1) := by decide +kernel
theorem d_X_get_0 : decode b_X_get 0 = .ok (.aload_n 0, 1) := by decide +kernel
theorem d_X_get_1 : decode b_X_get 1 = .ok (.getfield 10, 3) := by decide +kernel
theorem d_X_get_4 : decode b_X_get 4 = .ok (.iload_n 1, 1) := by decide +kernel
theorem d_X_get_5 : decode b_X_get 5 = .ok (.invokevirtual 54, 3) := by decide +kernel
theorem d_X_get_8 : decode b_X_get 8 = .ok (.istore_n 2, 1) := by decide +kernel
theorem d_X_get_9 : decode b_X_get 9 = .ok (.iload_n 2, 1) := by decide +kernel
theorem d_X_get_10 : decode b_X_get 10 = .ok (.ifCond .ne 7, 3) := by decide +kernel
theorem d_X_get_13 : decode b_X_get 13 = .ok (.iconst 0, 1) := by decide +kernel
theorem d_X_get_14 : decode b_X_get 14 = .ok (.goto 9, 3) := by decide +kernel
theorem d_X_get_17 : decode b_X_get 17 = .ok (.aload_n 0, 1) := by decide +kernel
theorem d_X_get_18 : decode b_X_get 18 = .ok (.getfield 16, 3) := by decide +kernel
theorem d_X_get_21 : decode b_X_get 21 = .ok (.iload_n 2, 1) := by decide +kernel
theorem d_X_get_22 : decode b_X_get 22 = .ok (.iaload, 1) := by decide +kernel
theorem d_X_get_23 : decode b_X_get 23 = .ok (.ireturn, 1) := by decide +kernel
theorem d_X_remove_0 : decode b_X_remove 0 = .ok (.aload_n 0, 1) := by decide +kernel
theorem d_X_remove_1 : decode b_X_remove 1 = .ok (.getfield 10, 3) := by decide +kernel
theorem d_X_remove_4 : decode b_X_remove 4 = .ok (.iload_n 1, 1) := by decide +kernel
theorem d_X_remove_5 : decode b_X_remove 5 = .ok (.invokevirtual 54, 3) := by decide +kernel
theorem d_X_remove_8 : decode b_X_remove 8 = .ok (.istore_n 2, 1) := by decide +kernel
theorem d_X_remove_9 : decode b_X_remove 9 = .ok (.iload_n 2, 1) := by decide +kernel
theorem d_X_remove_10 : decode b_X_remove 10 = .ok (.ifCond .ne 5, 3) := by decide +kernel
theorem d_X_remove_13 : decode b_X_remove 13 = .ok (.iconst 0, 1) := by decide +kernel
theorem d_X_remove_14 : decode b_X_remove 14 = .ok (.ireturn, 1) := by decide +kernel
theorem d_X_remove_15 : decode b_X_remove 15 = .ok (.aload_n 0, 1) := by decide +kernel
theorem d_X_remove_16 : decode b_X_remove 16 = .ok (.getfield 10, 3) := by decide +kernel
theorem d_X_remove_19 : decode b_X_remove 19 = .ok (.invokevirtual 77, 3) := by decide +kernel
theorem d_X_remove_22 : decode b_X_remove 22 = .ok (.aload_n 0, 1) := by decide +kernel
theorem d_X_remove_23 : decode b_X_remove 23 = .ok (.iload_n 2, 1) := by decide +kernel
theorem d_X_remove_24 : decode b_X_remove 24 = .ok (.invokevirtual 66, 3) := by decide +kernel
theorem d_X_remove_27 : decode b_X_remove 27 = .ok (.aload_n 0, 1) := by decide +kernel
theorem d_X_remove_28 : decode b_X_remove 28 = .ok (.getfield 23, 3) := by decide +kernel
theorem d_X_remove_31 : decode b_X_remove 31 = .ok (.iload_n 2, 1) := by decide +kernel
theorem d_X_remove_32 : decode b_X_remove 32 = .ok (.aload_n 0, 1) := by decide +kernel
theorem d_X_remove_33 : decode b_X_remove 33 = .ok (.getfield 26, 3) := by decide +kernel
theorem d_X_remove_36 : decode b_X_remove 36 = .ok (.iastore, 1) := by decide +kernel
theorem d_X_remove_37 : decode b_X_remove 37 = .ok (.aload_n 0, 1) := by decide +kernel
theorem d_X_remove_38 : decode b_X_remove 38 = .ok (.iload_n 2, 1) := by decide +kernel
theorem d_X_remove_39 : decode b_X_remove 39 = .ok (.putfield 26, 3) := by decide +kernel
theorem d_X_remove_42 : decode b_X_remove 42 = .ok (.aload_n 0, 1) := by decide +kernel
theorem d_X_remove_43 : decode b_X_remove 43 = .ok (.dup, 1) := by decide +kernel
theorem d_X_remove_44 : decode b_X_remove 44 = .ok (.getfield 51, 3) := by decide +kernel
theorem d_X_remove_47 : decode b_X_remove 47 = .ok (.iconst 1, 1) := by decide +kernel
theorem d_X_remove_48 : decode b_X_remove 48 = .ok (.isub, 1) := by decide +kernel
theorem d_X_remove_49 : decode b_X_remove 49 = .ok (.putfield 51, 3) := by decide +kernel
theorem d_X_remove_52 : decode b_X_remove 52 = .ok (.aload_n 0, 1) := by decide +kernel
theorem d_X_remove_53 : decode b_X_remove 53 = .ok (.getfield 16, 3) := by decide +kernel
theorem d_X_remove_56 : decode b_X_remove 56 = .ok (.iload_n 2, 1) := by decide +kernel
theorem d_X_remove_57 : decode b_X_remove 57 = .ok (.iaload, 1) := by decide +kernel
theorem d_X_remove_58 : decode b_X_remove 58 = .ok (.ireturn, 1) := by decide +kernel
theorem d_X_dropFirst_0 : decode b_X_dropFirst 0 = .ok (.aload_n 0, 1) := by decide +kernel
theorem d_X_dropFirst_1 : decode b_X_dropFirst 1 = .ok (.getfield 33, 3) := by decide +kernel
theorem d_X_dropFirst_4 : decode b_X_dropFirst 4 = .ok (.ifCond .ne 7, 3) := by decide +kernel
theorem d_X_dropFirst_7 : decode b_X_dropFirst 7 = .ok (.iconst 0, 1) := by decide +kernel
theorem d_X_dropFirst_8 : decode b_X_dropFirst 8 = .ok (.goto 19, 3) := by decide +kernel
theorem d_X_dropFirst_11 : decode b_X_dropFirst 11 = .ok (.aload_n 0, 1) := by decide +kernel
theorem d_X_dropFirst_12 : decode b_X_dropFirst 12 = .ok (.aload_n 0, 1) := by decide +kernel
theorem d_X_dropFirst_13 : decode b_X_dropFirst 13 = .ok (.getfield 10, 3) := by decide +kernel
theorem d_X_dropFirst_16 : decode b_X_dropFirst 16 = .ok (.getfield 80, 3) := by decide +kernel
theorem d_X_dropFirst_19 : decode b_X_dropFirst 19 = .ok (.aload_n 0, 1) := by decide +kernel
theorem d_X_dropFirst_20 : decode b_X_dropFirst 20 = .ok (.getfield 33, 3) := by decide +kernel
theorem d_X_dropFirst_23 : decode b_X_dropFirst 23 = .ok (.iaload, 1) := by decide +kernel
theorem d_X_dropFirst_24 : decode b_X_dropFirst 24 = .ok (.invokevirtual 83, 3) := by decide +kernel
theorem d_X_dropFirst_27 : decode b_X_dropFirst 27 = .ok (.ireturn, 1) := by decide +kernel
theorem d_X_dropLast_0 : decode b_X_dropLast 0 = .ok (.aload_n 0, 1) := by decide +kernel
theorem d_X_dropLast_1 : decode b_X_dropLast 1 = .ok (.getfield 36, 3) := by decide +kernel
theorem d_X_dropLast_4 : decode b_X_dropLast 4 = .ok (.ifCond .ne 7, 3) := by decide +kernel
theorem d_X_dropLast_7 : decode b_X_dropLast 7 = .ok (.iconst 0, 1) := by decide +kernel
theorem d_X_dropLast_8 : decode b_X_dropLast 8 = .ok (.goto 19, 3) := by decide +kernel
theorem d_X_dropLast_11 : decode b_X_dropLast 11 = .ok (.aload_n 0, 1) := by decide +kernel
theorem d_X_dropLast_12 : decode b_X_dropLast 12 = .ok (.aload_n 0, 1) := by decide +kernel
theorem d_X_dropLast_13 : decode b_X_dropLast 13 = .ok (.getfield 10, 3) := by decide +kernel
theorem d_X_dropLast_16 : decode b_X_dropLast 16 = .ok (.getfield 80, 3) := by decide +kernel
theorem d_X_dropLast_19 : decode b_X_dropLast 19 = .ok (.aload_n 0, 1) := by decide +kernel
theorem d_X_dropLast_20 : decode b_X_dropLast 20 = .ok (.getfield 36, 3) := by decide +kernel
theorem d_X_dropLast_23 : decode b_X_dropLast 23 = .ok (.iaload, 1) := by decide +kernel
theorem d_X_dropLast_24 : decode b_X_dropLast 24 = .ok (.invokevirtual 83, 3) := by decide +kernel
theorem d_X_dropLast_27 : decode b_X_dropLast 27 = .ok (.ireturn, 1) := by decide +kernel
theorem d_X_first_0 : decode b_X_first 0 = .ok (.aload_n 0, 1) := by decide +kernel
theorem d_X_first_1 : decode b_X_first 1 = .ok (.getfield 33, 3) := by decide +kernel
theorem d_X_first_4 : decode b_X_first 4 = .ok (.ifCond .ne 7, 3) := by decide +kernel
theorem d_X_first_7 : decode b_X_first 7 = .ok (.iconst 0, 1) := by decide +kernel
theorem d_X_first_8 : decode b_X_first 8 = .ok (.goto 15, 3) := by decide +kernel
theorem d_X_first_11 : decode b_X_first 11 = .ok (.aload_n 0, 1) := by decide +kernel
theorem d_X_first_12 : decode b_X_first 12 = .ok (.getfield 10, 3) := by decide +kernel
theorem d_X_first_15 : decode b_X_first 15 = .ok (.getfield 80, 3) := by decide +kernel
theorem d_X_first_18 : decode b_X_first 18 = .ok (.aload_n 0, 1) := by decide +kernel
theorem d_X_first_19 : decode b_X_first 19 = .ok (.getfield 33, 3) := by decide +kernel
theorem d_X_first_22 : decode b_X_first 22 = .ok (.iaload, 1) := by decide +kernel
theorem d_X_first_23 : decode b_X_first 23 = .ok (.ireturn, 1) := by decide +kernel
theorem d_X_last_0 : decode b_X_last 0 = .ok (.aload_n 0, 1) := by decide +kernel
theorem d_X_last_1 : decode b_X_last 1 = .ok (.getfield 36, 3) := by decide +kernel
theorem d_X_last_4 : decode b_X_last 4 = .ok (.ifCond .ne 7, 3) := by decide +kernel
theorem d_X_last_7 : decode b_X_last 7 = .ok (.iconst 0, 1) := by decide +kernel
theorem d_X_last_8 : decode b_X_last 8 = .ok (.goto 15, 3) := by decide +kernel
theorem d_X_last_11 : decode b_X_last 11 = .ok (.aload_n 0, 1) := by decide +kernel
theorem d_X_last_12 : decode b_X_last 12 = .ok (.getfield 10, 3) := by decide +kernel
theorem d_X_last_15 : decode b_X_last 15 = .ok (.getfield 80, 3) := by decide +kernel
theorem d_X_last_18 : decode b_X_last 18 = .ok (.aload_n 0, 1) := by decide +kernel
theorem d_X_last_19 : decode b_X_last 19 = .ok (.getfield 36, 3) := by decide +kernel
theorem d_X_last_22 : decode b_X_last 22 = .ok (.iaload, 1) := by decide +kernel
theorem d_X_last_23 : decode b_X_last 23 = .ok (.ireturn, 1) := by decide +kernel
theorem d_X_size_0 : decode b_X_size 0 = .ok (.aload_n 0, 1) := by decide +kernel
theorem d_X_size_1 : decode b_X_size 1 = .ok (.getfield 51, 3) := by decide +kernel
theorem d_X_size_4 : decode b_X_size 4 = .ok (.ireturn, 1) := by decide +kernel
theorem d_X_clear_0 : decode b_X_clear 0 = .ok (.aload_n 0, 1) := by decide +kernel
theorem d_X_clear_1 : decode b_X_clear 1 = .ok (.getfield 10, 3) := by decide +kernel
theorem d_X_clear_4 : decode b_X_clear 4 = .ok (.invokevirtual 86, 3) := by decide +kernel
theorem d_X_clear_7 : decode b_X_clear 7 = .ok (.aload_n 0, 1) := by decide +kernel
theorem d_X_clear_8 : decode b_X_clear 8 = .ok (.iconst 0, 1) := by decide +kernel
theorem d_X_clear_9 : decode b_X_clear 9 = .ok (.putfield 33, 3) := by decide +kernel
theorem d_X_clear_12 : decode b_X_clear 12 = .ok (.aload_n 0, 1) := by decide +kernel
theorem d_X_clear_13 : decode b_X_clear 13 = .ok (.iconst 0, 1) := by decide +kernel
theorem d_X_clear_14 : decode b_X_clear 14 = .ok (.putfield 36, 3) := by decide +kernel
theorem d_X_clear_17 : decode b_X_clear 17 = .ok (.aload_n 0, 1) := by decide +kernel
theorem d_X_clear_18 : decode b_X_clear 18 = .ok (.iconst 0, 1) := by decide +kernel
theorem d_X_clear_19 : decode b_X_clear 19 = .ok (.putfield 51, 3) := by decide +kernel
theorem d_X_clear_22 : decode b_X_clear 22 = .ok (.aload_n 0, 1) := by decide +kernel
theorem d_X_clear_23 : decode b_X_clear 23 = .ok (.iconst 0, 1) := by decide +kernel
theorem d_X_clear_24 : decode b_X_clear 24 = .ok (.putfield 30, 3) := by decide +kernel
theorem d_X_clear_27 : decode b_X_clear 27 = .ok (.aload_n 0, 1) := by decide +kernel
theorem d_X_clear_28 : decode b_X_clear 28 = .ok (.iconst 0, 1) := by decide +kernel
theorem d_X_clear_29 : decode b_X_clear 29 = .ok (.putfield 26, 3) := by decide +kernel
theorem d_X_clear_32 : decode b_X_clear 32 = .ok (.return_, 1) := by decide +kernel
end
section
/-! DECODE ROWS (printed by gen/base.py) -/
theorem d_law_law_0 : decode code 0 = .ok (.new 7, 3) := by decide +kernel
theorem d_law_law_3 : decode code 3 = .ok (.dup, 1) := by decide +kernel
theorem d_law_law_4 : decode code 4 = .ok (.invokespecial 9, 3) := by decide +kernel
theorem d_law_law_7 : decode code 7 = .ok (.astore_n 1, 1) := by decide +kernel
theorem d_law_law_8 : decode code 8 = .ok (.new 10, 3) := by decide +kernel
theorem d_law_law_11 : decode code 11 = .ok (.dup, 1) := by decide +kernel
theorem d_law_law_12 : decode code 12 = .ok (.invokespecial 12, 3) := by decide +kernel
theorem d_law_law_15 : decode code 15 = .ok (.astore_n 2, 1) := by decide +kernel
theorem d_law_law_16 : decode code 16 = .ok (.iconst 0, 1) := by decide +kernel
theorem d_law_law_17 : decode code 17 = .ok (.istore_n 3, 1) := by decide +kernel
theorem d_law_law_18 : decode code 18 = .ok (.iload_n 3, 1) := by decide +kernel
theorem d_law_law_19 : decode code 19 = .ok (.aload_n 0, 1) := by decide +kernel
theorem d_law_law_20 : decode code 20 = .ok (.arraylength, 1) := by decide +kernel
theorem d_law_law_21 : decode code 21 = .ok (.iconst 3, 1) := by decide +kernel
theorem d_law_law_22 : decode code 22 = .ok (.isub, 1) := by decide +kernel
theorem d_law_law_23 : decode code 23 = .ok (.if_icmp .gt 350, 3) := by decide +kernel
theorem d_law_law_26 : decode code 26 = .ok (.aload_n 0, 1) := by decide +kernel
theorem d_law_law_27 : decode code 27 = .ok (.iload_n 3, 1) := by decide +kernel
theorem d_law_law_28 : decode code 28 = .ok (.iaload, 1) := by decide +kernel
theorem d_law_law_29 : decode code 29 = .ok (.bipush 15, 2) := by decide +kernel
theorem d_law_law_31 : decode code 31 = .ok (.iand, 1) := by decide +kernel
theorem d_law_law_32 : decode code 32 = .ok (.tableswitch 335 0 12 #[68, 101, 134, 167, 190, 213, 236, 259, 272, 285, 298, 311, 324], 68) := by decide +kernel
theorem d_law_law_100 : decode code 100 = .ok (.aload_n 1, 1) := by decide +kernel
theorem d_law_law_101 : decode code 101 = .ok (.aload_n 0, 1) := by decide +kernel
theorem d_law_law_102 : decode code 102 = .ok (.iload_n 3, 1) := by decide +kernel
theorem d_law_law_103 : decode code 103 = .ok (.iconst 1, 1) := by decide +kernel
theorem d_law_law_104 : decode code 104 = .ok (.iadd, 1) := by decide +kernel
theorem d_law_law_105 : decode code 105 = .ok (.iaload, 1) := by decide +kernel
theorem d_law_law_106 : decode code 106 = .ok (.aload_n 0, 1) := by decide +kernel
theorem d_law_law_107 : decode code 107 = .ok (.iload_n 3, 1) := by decide +kernel
theorem d_law_law_108 : decode code 108 = .ok (.iconst 2, 1) := by decide +kernel
theorem d_law_law_109 : decode code 109 = .ok (.iadd, 1) := by decide +kernel
theorem d_law_law_110 : decode code 110 = .ok (.iaload, 1) := by decide +kernel
theorem d_law_law_111 : decode code 111 = .ok (.invokevirtual 13, 3) := by decide +kernel
theorem d_law_law_114 : decode code 114 = .ok (.aload_n 2, 1) := by decide +kernel
theorem d_law_law_115 : decode code 115 = .ok (.aload_n 0, 1) := by decide +kernel
theorem d_law_law_116 : decode code 116 = .ok (.iload_n 3, 1) := by decide +kernel
theorem d_law_law_117 : decode code 117 = .ok (.iconst 1, 1) := by decide +kernel
theorem d_law_law_118 : decode code 118 = .ok (.iadd, 1) := by decide +kernel
theorem d_law_law_119 : decode code 119 = .ok (.iaload, 1) := by decide +kernel
theorem d_law_law_120 : decode code 120 = .ok (.aload_n 0, 1) := by decide +kernel
theorem d_law_law_121 : decode code 121 = .ok (.iload_n 3, 1) := by decide +kernel
theorem d_law_law_122 : decode code 122 = .ok (.iconst 2, 1) := by decide +kernel
theorem d_law_law_123 : decode code 123 = .ok (.iadd, 1) := by decide +kernel
theorem d_law_law_124 : decode code 124 = .ok (.iaload, 1) := by decide +kernel
theorem d_law_law_125 : decode code 125 = .ok (.invokevirtual 17, 3) := by decide +kernel
theorem d_law_law_128 : decode code 128 = .ok (.if_icmp .eq 239, 3) := by decide +kernel
theorem d_law_law_131 : decode code 131 = .ok (.iconst 0, 1) := by decide +kernel
theorem d_law_law_132 : decode code 132 = .ok (.ireturn, 1) := by decide +kernel
theorem d_law_law_133 : decode code 133 = .ok (.aload_n 1, 1) := by decide +kernel
theorem d_law_law_134 : decode code 134 = .ok (.aload_n 0, 1) := by decide +kernel
theorem d_law_law_135 : decode code 135 = .ok (.iload_n 3, 1) := by decide +kernel
theorem d_law_law_136 : decode code 136 = .ok (.iconst 1, 1) := by decide +kernel
theorem d_law_law_137 : decode code 137 = .ok (.iadd, 1) := by decide +kernel
theorem d_law_law_138 : decode code 138 = .ok (.iaload, 1) := by decide +kernel
theorem d_law_law_139 : decode code 139 = .ok (.aload_n 0, 1) := by decide +kernel
theorem d_law_law_140 : decode code 140 = .ok (.iload_n 3, 1) := by decide +kernel
theorem d_law_law_141 : decode code 141 = .ok (.iconst 2, 1) := by decide +kernel
theorem d_law_law_142 : decode code 142 = .ok (.iadd, 1) := by decide +kernel
theorem d_law_law_143 : decode code 143 = .ok (.iaload, 1) := by decide +kernel
theorem d_law_law_144 : decode code 144 = .ok (.invokevirtual 18, 3) := by decide +kernel
theorem d_law_law_147 : decode code 147 = .ok (.aload_n 2, 1) := by decide +kernel
theorem d_law_law_148 : decode code 148 = .ok (.aload_n 0, 1) := by decide +kernel
theorem d_law_law_149 : decode code 149 = .ok (.iload_n 3, 1) := by decide +kernel
theorem d_law_law_150 : decode code 150 = .ok (.iconst 1, 1) := by decide +kernel
theorem d_law_law_151 : decode code 151 = .ok (.iadd, 1) := by decide +kernel
theorem d_law_law_152 : decode code 152 = .ok (.iaload, 1) := by decide +kernel
theorem d_law_law_153 : decode code 153 = .ok (.aload_n 0, 1) := by decide +kernel
theorem d_law_law_154 : decode code 154 = .ok (.iload_n 3, 1) := by decide +kernel
theorem d_law_law_155 : decode code 155 = .ok (.iconst 2, 1) := by decide +kernel
theorem d_law_law_156 : decode code 156 = .ok (.iadd, 1) := by decide +kernel
theorem d_law_law_157 : decode code 157 = .ok (.iaload, 1) := by decide +kernel
theorem d_law_law_158 : decode code 158 = .ok (.invokevirtual 21, 3) := by decide +kernel
theorem d_law_law_161 : decode code 161 = .ok (.if_icmp .eq 206, 3) := by decide +kernel
theorem d_law_law_164 : decode code 164 = .ok (.iconst 0, 1) := by decide +kernel
theorem d_law_law_165 : decode code 165 = .ok (.ireturn, 1) := by decide +kernel
theorem d_law_law_166 : decode code 166 = .ok (.aload_n 1, 1) := by decide +kernel
theorem d_law_law_167 : decode code 167 = .ok (.aload_n 0, 1) := by decide +kernel
theorem d_law_law_168 : decode code 168 = .ok (.iload_n 3, 1) := by decide +kernel
theorem d_law_law_169 : decode code 169 = .ok (.iconst 1, 1) := by decide +kernel
theorem d_law_law_170 : decode code 170 = .ok (.iadd, 1) := by decide +kernel
theorem d_law_law_171 : decode code 171 = .ok (.iaload, 1) := by decide +kernel
theorem d_law_law_172 : decode code 172 = .ok (.aload_n 0, 1) := by decide +kernel
theorem d_law_law_173 : decode code 173 = .ok (.iload_n 3, 1) := by decide +kernel
theorem d_law_law_174 : decode code 174 = .ok (.iconst 2, 1) := by decide +kernel
theorem d_law_law_175 : decode code 175 = .ok (.iadd, 1) := by decide +kernel
theorem d_law_law_176 : decode code 176 = .ok (.iaload, 1) := by decide +kernel
theorem d_law_law_177 : decode code 177 = .ok (.invokevirtual 22, 3) := by decide +kernel
theorem d_law_law_180 : decode code 180 = .ok (.aload_n 2, 1) := by decide +kernel
theorem d_law_law_181 : decode code 181 = .ok (.aload_n 0, 1) := by decide +kernel
theorem d_law_law_182 : decode code 182 = .ok (.iload_n 3, 1) := by decide +kernel
theorem d_law_law_183 : decode code 183 = .ok (.iconst 1, 1) := by decide +kernel
theorem d_law_law_184 : decode code 184 = .ok (.iadd, 1) := by decide +kernel
theorem d_law_law_185 : decode code 185 = .ok (.iaload, 1) := by decide +kernel
theorem d_law_law_186 : decode code 186 = .ok (.aload_n 0, 1) := by decide +kernel
theorem d_law_law_187 : decode code 187 = .ok (.iload_n 3, 1) := by decide +kernel
theorem d_law_law_188 : decode code 188 = .ok (.iconst 2, 1) := by decide +kernel
theorem d_law_law_189 : decode code 189 = .ok (.iadd, 1) := by decide +kernel
theorem d_law_law_190 : decode code 190 = .ok (.iaload, 1) := by decide +kernel
theorem d_law_law_191 : decode code 191 = .ok (.invokevirtual 25, 3) := by decide +kernel
theorem d_law_law_194 : decode code 194 = .ok (.if_icmp .eq 173, 3) := by decide +kernel
theorem d_law_law_197 : decode code 197 = .ok (.iconst 0, 1) := by decide +kernel
theorem d_law_law_198 : decode code 198 = .ok (.ireturn, 1) := by decide +kernel
theorem d_law_law_199 : decode code 199 = .ok (.aload_n 1, 1) := by decide +kernel
theorem d_law_law_200 : decode code 200 = .ok (.aload_n 0, 1) := by decide +kernel
theorem d_law_law_201 : decode code 201 = .ok (.iload_n 3, 1) := by decide +kernel
theorem d_law_law_202 : decode code 202 = .ok (.iconst 1, 1) := by decide +kernel
theorem d_law_law_203 : decode code 203 = .ok (.iadd, 1) := by decide +kernel
theorem d_law_law_204 : decode code 204 = .ok (.iaload, 1) := by decide +kernel
theorem d_law_law_205 : decode code 205 = .ok (.invokevirtual 26, 3) := by decide +kernel
theorem d_law_law_208 : decode code 208 = .ok (.aload_n 2, 1) := by decide +kernel
theorem d_law_law_209 : decode code 209 = .ok (.aload_n 0, 1) := by decide +kernel
theorem d_law_law_210 : decode code 210 = .ok (.iload_n 3, 1) := by decide +kernel
theorem d_law_law_211 : decode code 211 = .ok (.iconst 1, 1) := by decide +kernel
theorem d_law_law_212 : decode code 212 = .ok (.iadd, 1) := by decide +kernel
theorem d_law_law_213 : decode code 213 = .ok (.iaload, 1) := by decide +kernel
theorem d_law_law_214 : decode code 214 = .ok (.invokevirtual 30, 3) := by decide +kernel
theorem d_law_law_217 : decode code 217 = .ok (.if_icmp .eq 150, 3) := by decide +kernel
theorem d_law_law_220 : decode code 220 = .ok (.iconst 0, 1) := by decide +kernel
theorem d_law_law_221 : decode code 221 = .ok (.ireturn, 1) := by decide +kernel
theorem d_law_law_222 : decode code 222 = .ok (.aload_n 1, 1) := by decide +kernel
theorem d_law_law_223 : decode code 223 = .ok (.aload_n 0, 1) := by decide +kernel
theorem d_law_law_224 : decode code 224 = .ok (.iload_n 3, 1) := by decide +kernel
theorem d_law_law_225 : decode code 225 = .ok (.iconst 1, 1) := by decide +kernel
theorem d_law_law_226 : decode code 226 = .ok (.iadd, 1) := by decide +kernel
theorem d_law_law_227 : decode code 227 = .ok (.iaload, 1) := by decide +kernel
theorem d_law_law_228 : decode code 228 = .ok (.invokevirtual 31, 3) := by decide +kernel
theorem d_law_law_231 : decode code 231 = .ok (.aload_n 2, 1) := by decide +kernel
theorem d_law_law_232 : decode code 232 = .ok (.aload_n 0, 1) := by decide +kernel
theorem d_law_law_233 : decode code 233 = .ok (.iload_n 3, 1) := by decide +kernel
theorem d_law_law_234 : decode code 234 = .ok (.iconst 1, 1) := by decide +kernel
theorem d_law_law_235 : decode code 235 = .ok (.iadd, 1) := by decide +kernel
theorem d_law_law_236 : decode code 236 = .ok (.iaload, 1) := by decide +kernel
theorem d_law_law_237 : decode code 237 = .ok (.invokevirtual 34, 3) := by decide +kernel
theorem d_law_law_240 : decode code 240 = .ok (.if_icmp .eq 127, 3) := by decide +kernel
theorem d_law_law_243 : decode code 243 = .ok (.iconst 0, 1) := by decide +kernel
theorem d_law_law_244 : decode code 244 = .ok (.ireturn, 1) := by decide +kernel
theorem d_law_law_245 : decode code 245 = .ok (.aload_n 1, 1) := by decide +kernel
theorem d_law_law_246 : decode code 246 = .ok (.aload_n 0, 1) := by decide +kernel
theorem d_law_law_247 : decode code 247 = .ok (.iload_n 3, 1) := by decide +kernel
theorem d_law_law_248 : decode code 248 = .ok (.iconst 1, 1) := by decide +kernel
theorem d_law_law_249 : decode code 249 = .ok (.iadd, 1) := by decide +kernel
theorem d_law_law_250 : decode code 250 = .ok (.iaload, 1) := by decide +kernel
theorem d_law_law_251 : decode code 251 = .ok (.invokevirtual 35, 3) := by decide +kernel
theorem d_law_law_254 : decode code 254 = .ok (.aload_n 2, 1) := by decide +kernel
theorem d_law_law_255 : decode code 255 = .ok (.aload_n 0, 1) := by decide +kernel
theorem d_law_law_256 : decode code 256 = .ok (.iload_n 3, 1) := by decide +kernel
theorem d_law_law_257 : decode code 257 = .ok (.iconst 1, 1) := by decide +kernel
theorem d_law_law_258 : decode code 258 = .ok (.iadd, 1) := by decide +kernel
theorem d_law_law_259 : decode code 259 = .ok (.iaload, 1) := by decide +kernel
theorem d_law_law_260 : decode code 260 = .ok (.invokevirtual 38, 3) := by decide +kernel
theorem d_law_law_263 : decode code 263 = .ok (.if_icmp .eq 104, 3) := by decide +kernel
theorem d_law_law_266 : decode code 266 = .ok (.iconst 0, 1) := by decide +kernel
theorem d_law_law_267 : decode code 267 = .ok (.ireturn, 1) := by decide +kernel
theorem d_law_law_268 : decode code 268 = .ok (.aload_n 1, 1) := by decide +kernel
theorem d_law_law_269 : decode code 269 = .ok (.aload_n 0, 1) := by decide +kernel
theorem d_law_law_270 : decode code 270 = .ok (.iload_n 3, 1) := by decide +kernel
theorem d_law_law_271 : decode code 271 = .ok (.iconst 1, 1) := by decide +kernel
theorem d_law_law_272 : decode code 272 = .ok (.iadd, 1) := by decide +kernel
theorem d_law_law_273 : decode code 273 = .ok (.iaload, 1) := by decide +kernel
theorem d_law_law_274 : decode code 274 = .ok (.invokevirtual 39, 3) := by decide +kernel
theorem d_law_law_277 : decode code 277 = .ok (.aload_n 2, 1) := by decide +kernel
theorem d_law_law_278 : decode code 278 = .ok (.aload_n 0, 1) := by decide +kernel
theorem d_law_law_279 : decode code 279 = .ok (.iload_n 3, 1) := by decide +kernel
theorem d_law_law_280 : decode code 280 = .ok (.iconst 1, 1) := by decide +kernel
theorem d_law_law_281 : decode code 281 = .ok (.iadd, 1) := by decide +kernel
theorem d_law_law_282 : decode code 282 = .ok (.iaload, 1) := by decide +kernel
theorem d_law_law_283 : decode code 283 = .ok (.invokevirtual 42, 3) := by decide +kernel
theorem d_law_law_286 : decode code 286 = .ok (.if_icmp .eq 81, 3) := by decide +kernel
theorem d_law_law_289 : decode code 289 = .ok (.iconst 0, 1) := by decide +kernel
theorem d_law_law_290 : decode code 290 = .ok (.ireturn, 1) := by decide +kernel
theorem d_law_law_291 : decode code 291 = .ok (.aload_n 1, 1) := by decide +kernel
theorem d_law_law_292 : decode code 292 = .ok (.invokevirtual 43, 3) := by decide +kernel
theorem d_law_law_295 : decode code 295 = .ok (.aload_n 2, 1) := by decide +kernel
theorem d_law_law_296 : decode code 296 = .ok (.invokevirtual 47, 3) := by decide +kernel
theorem d_law_law_299 : decode code 299 = .ok (.if_icmp .eq 68, 3) := by decide +kernel
theorem d_law_law_302 : decode code 302 = .ok (.iconst 0, 1) := by decide +kernel
theorem d_law_law_303 : decode code 303 = .ok (.ireturn, 1) := by decide +kernel
theorem d_law_law_304 : decode code 304 = .ok (.aload_n 1, 1) := by decide +kernel
theorem d_law_law_305 : decode code 305 = .ok (.invokevirtual 48, 3) := by decide +kernel
theorem d_law_law_308 : decode code 308 = .ok (.aload_n 2, 1) := by decide +kernel
theorem d_law_law_309 : decode code 309 = .ok (.invokevirtual 51, 3) := by decide +kernel
theorem d_law_law_312 : decode code 312 = .ok (.if_icmp .eq 55, 3) := by decide +kernel
theorem d_law_law_315 : decode code 315 = .ok (.iconst 0, 1) := by decide +kernel
theorem d_law_law_316 : decode code 316 = .ok (.ireturn, 1) := by decide +kernel
theorem d_law_law_317 : decode code 317 = .ok (.aload_n 1, 1) := by decide +kernel
theorem d_law_law_318 : decode code 318 = .ok (.invokevirtual 52, 3) := by decide +kernel
theorem d_law_law_321 : decode code 321 = .ok (.aload_n 2, 1) := by decide +kernel
theorem d_law_law_322 : decode code 322 = .ok (.invokevirtual 55, 3) := by decide +kernel
theorem d_law_law_325 : decode code 325 = .ok (.if_icmp .eq 42, 3) := by decide +kernel
theorem d_law_law_328 : decode code 328 = .ok (.iconst 0, 1) := by decide +kernel
theorem d_law_law_329 : decode code 329 = .ok (.ireturn, 1) := by decide +kernel
theorem d_law_law_330 : decode code 330 = .ok (.aload_n 1, 1) := by decide +kernel
theorem d_law_law_331 : decode code 331 = .ok (.invokevirtual 56, 3) := by decide +kernel
theorem d_law_law_334 : decode code 334 = .ok (.aload_n 2, 1) := by decide +kernel
theorem d_law_law_335 : decode code 335 = .ok (.invokevirtual 59, 3) := by decide +kernel
theorem d_law_law_338 : decode code 338 = .ok (.if_icmp .eq 29, 3) := by decide +kernel
theorem d_law_law_341 : decode code 341 = .ok (.iconst 0, 1) := by decide +kernel
theorem d_law_law_342 : decode code 342 = .ok (.ireturn, 1) := by decide +kernel
theorem d_law_law_343 : decode code 343 = .ok (.aload_n 1, 1) := by decide +kernel
theorem d_law_law_344 : decode code 344 = .ok (.invokevirtual 60, 3) := by decide +kernel
theorem d_law_law_347 : decode code 347 = .ok (.aload_n 2, 1) := by decide +kernel
theorem d_law_law_348 : decode code 348 = .ok (.invokevirtual 63, 3) := by decide +kernel
theorem d_law_law_351 : decode code 351 = .ok (.if_icmp .eq 16, 3) := by decide +kernel
theorem d_law_law_354 : decode code 354 = .ok (.iconst 0, 1) := by decide +kernel
theorem d_law_law_355 : decode code 355 = .ok (.ireturn, 1) := by decide +kernel
theorem d_law_law_356 : decode code 356 = .ok (.aload_n 1, 1) := by decide +kernel
theorem d_law_law_357 : decode code 357 = .ok (.invokevirtual 64, 3) := by decide +kernel
theorem d_law_law_360 : decode code 360 = .ok (.aload_n 2, 1) := by decide +kernel
theorem d_law_law_361 : decode code 361 = .ok (.invokevirtual 67, 3) := by decide +kernel
theorem d_law_law_364 : decode code 364 = .ok (.goto 3, 3) := by decide +kernel
theorem d_law_law_367 : decode code 367 = .ok (.iinc 3 3, 3) := by decide +kernel
theorem d_law_law_370 : decode code 370 = .ok (.goto (-352), 3) := by decide +kernel
theorem d_law_law_373 : decode code 373 = .ok (.iconst 1, 1) := by decide +kernel
theorem d_law_law_374 : decode code 374 = .ok (.ireturn, 1) := by decide +kernel
end
section
/-! PURE: the whole map (tree of keys, row, chain of places to be had again) and the list of pairs that it stands for -/
section MapRows
def rm_J (N : Nat) (key : Nat → Int32) (sm gr : Nat → Nat) (root : Nat) (bf bh : Nat → Nat) (fr bk n us fe : Nat) (l o fl : List Nat) : Prop :=
  tr_K key sm gr root l ∧ rw_D bf bh fr bk o ∧ rw_F bh fe fl ∧ (o ++ fl).Nodup ∧ (∀ i ∈ o ++ fl, 0 < i ∧ i ≤ us) ∧ (∀ i, i ∈ l ↔ i ∈ o) ∧ n = o.length ∧ us ≤ N
def rm_M (key vl : Nat → Int32) (o : List Nat) : List (Int32 × Int32) := o.map (fun p => (key p, vl p))
def rm_I (N : Nat) (vl : Nat → Int32) (bf bh : Nat → Nat) (fr bk n us fe : Nat) (key : Nat → Int32) (sm gr : Nat → Nat) (root : Nat) (M : List (Int32 × Int32)) : Prop :=
  ∃ l o fl, rm_J N key sm gr root bf bh fr bk n us fe l o fl ∧ M = rm_M key vl o
def rm_mv (f : Int32) (p : Nat) (o : List Nat) : List Nat := if f = 0 then o ++ [p] else p :: o
theorem rm_mv_mem {f : Int32} {p : Nat} {o : List Nat} (i : Nat) : i ∈ rm_mv f p o ↔ i = p ∨ i ∈ o := by
  unfold rm_mv
  by_cases h : f = 0
  · rw [if_pos h]; simp; grind
  · rw [if_neg h]; simp
theorem rm_mv_len {f : Int32} {p : Nat} {o : List Nat} : (rm_mv f p o).length = o.length + 1 := by
  unfold rm_mv
  by_cases h : f = 0
  · rw [if_pos h]; simp
  · rw [if_neg h]; simp
theorem rm_mv_nd {f : Int32} {p : Nat} {o fl : List Nat} (h : (o ++ fl).Nodup) (h1 : p ∉ o) (h2 : p ∉ fl) : (rm_mv f p o ++ fl).Nodup := by
  have n1 := List.nodup_append.mp h
  unfold rm_mv
  by_cases hf : f = 0
  · rw [if_pos hf]
    refine List.nodup_append.mpr ⟨List.nodup_append.mpr ⟨n1.1, by simp, fun a ha b hb => ?_⟩, n1.2.1, fun a ha b hb => ?_⟩
    · simp at hb; rw [hb]; exact fun q => h1 (q ▸ ha)
    · rcases List.mem_append.mp ha with q | q
      · exact n1.2.2 a q b hb
      · simp at q; rw [q]; exact fun w => h2 (w ▸ hb)
  · rw [if_neg hf]
    refine List.nodup_append.mpr ⟨List.nodup_cons.mpr ⟨h1, n1.1⟩, n1.2.1, fun a ha b hb => ?_⟩
    rcases List.mem_cons.mp ha with q | q
    · rw [q]; exact fun w => h2 (w ▸ hb)
    · exact n1.2.2 a q b hb
theorem rm_mv_M {f k v : Int32} {p : Nat} {key vl key' vl' : Nat → Int32} {o : List Nat} (hk : key' p = k) (hv : vl' p = v) (hs : ∀ i ∈ o, key' i = key i ∧ vl' i = vl i) : rm_M key' vl' (rm_mv f p o) = sp_mv f (k, v) (rm_M key vl o) := by
  have e : rm_M key' vl' o = rm_M key vl o := by
    unfold rm_M
    exact List.map_congr_left (fun i hi => by rw [(hs i hi).1, (hs i hi).2])
  unfold rm_mv sp_mv
  by_cases h : f = 0
  · rw [if_pos h, if_pos h, ← e]
    simp [rm_M, hk, hv]
  · rw [if_neg h, if_neg h, ← e]
    simp [rm_M, hk, hv]
theorem tr_S_inj {key : Nat → Int32} {l : List Nat} (h : tr_S key l) {i j : Nat} (hi : i ∈ l) (hj : j ∈ l) (he : key i = key j) : i = j := by
  obtain ⟨a, b, e⟩ := List.append_of_mem hi
  subst e
  have s := tr_S_at h
  rcases List.mem_append.mp hj with q | q
  · have := s.1 j q
    rw [he] at this
    exact absurd this Int32.lt_irrefl
  · rcases List.mem_cons.mp q with q | q
    · exact q.symm
    · have := s.2.1 j q
      rw [he] at this
      exact absurd this Int32.lt_irrefl
theorem rm_no {key vl : Nat → Int32} {o : List Nat} {k : Int32} (h : ∀ i ∈ o, key i ≠ k) : sp_no k (rm_M key vl o) := by
  intro q hq
  unfold rm_M at hq
  obtain ⟨i, hi, e⟩ := List.mem_map.mp hq
  rw [← e]
  exact h i hi
theorem rm_at {key vl : Nat → Int32} {x y : List Nat} {p : Nat} : rm_M key vl (x ++ p :: y) = rm_M key vl x ++ (key p, vl p) :: rm_M key vl y := by simp [rm_M]
theorem rm_app {key vl : Nat → Int32} {x y : List Nat} : rm_M key vl (x ++ y) = rm_M key vl x ++ rm_M key vl y := by simp [rm_M]
/-- what a place of the row gives -/
theorem rm_J_at {N : Nat} {key vl : Nat → Int32} {sm gr bf bh : Nat → Nat} {root fr bk n us fe : Nat} {l o fl : List Nat} (h : rm_J N key sm gr root bf bh fr bk n us fe l o fl) {p : Nat} (hp : p ∈ o) :
    ∃ x y, o = x ++ p :: y ∧ p ∉ x ∧ p ∉ y ∧ sp_no (key p) (rm_M key vl x) ∧ sp_get (key p) (rm_M key vl o) = vl p ∧ sp_rm (key p) (rm_M key vl o) = rm_M key vl (x ++ y) ∧ sp_has (key p) (rm_M key vl o) = true ∧ ∀ v, sp_set (key p) v (rm_M key vl o) = rm_M key (va_up vl p v) o := by
  obtain ⟨x, y, e⟩ := List.append_of_mem hp
  obtain ⟨hT, hD, hF, hn, hb, hm, hl, hu⟩ := h
  subst e
  have n1 := List.nodup_append.mp (List.nodup_append.mp hn).1
  have n2 := List.nodup_cons.mp n1.2.1
  have px : p ∉ x := fun q => n1.2.2 p q p (by simp) rfl
  have hno : sp_no (key p) (rm_M key vl x) := rm_no (fun i hi q => px ((tr_S_inj hT.2.1 ((hm i).mpr (by simp [hi])) ((hm p).mpr (by simp)) q) ▸ hi))
  have g := sp_at (k := key p) (w := vl p) (rm_M key vl y) (rm_M key vl x) hno
  refine ⟨x, y, rfl, px, n2.1, hno, ?_, ?_, ?_, fun v => ?_⟩
  · rw [rm_at]; exact g.1
  · rw [rm_at, rm_app]; exact g.2.1
  · rw [rm_at]; exact sp_has_at _ _
  · rw [rm_at, rm_at, g.2.2 v, va_up_self]
    congr 1
    · exact List.map_congr_left (fun i hi => by
        have c : i ≠ p := fun q => px (q ▸ hi)
        rw [va_up_ne vl v c])
    · congr 1
      exact List.map_congr_left (fun i hi => by
        have c : i ≠ p := fun q => n2.1 (q ▸ hi)
        rw [va_up_ne vl v c])
theorem rm_J_z {N : Nat} {key : Nat → Int32} {sm gr bf bh : Nat → Nat} {root fr bk n us fe : Nat} {l o fl : List Nat} (h : rm_J N key sm gr root bf bh fr bk n us fe l o fl) : 0 ∉ o ∧ 0 ∉ fl ∧ o.Nodup ∧ (∀ i ∈ o, i ∉ fl) ∧ (∀ i ∈ o, 0 < i ∧ i ≤ N) ∧ (∀ i ∈ fl, 0 < i ∧ i ≤ N) := by
  obtain ⟨hT, hD, hF, hn, hb, hm, hl, hu⟩ := h
  have n1 := List.nodup_append.mp hn
  refine ⟨fun q => absurd (hb 0 (by simp [q])).1 (Nat.lt_irrefl 0), fun q => absurd (hb 0 (by simp [q])).1 (Nat.lt_irrefl 0), n1.1, fun i hi q => n1.2.2 i hi i q rfl, fun i hi => ?_, fun i hi => ?_⟩
  · have := hb i (by simp [hi]); omega
  · have := hb i (by simp [hi]); omega
/-- a fresh place -/
theorem rm_place {N : Nat} {key : Nat → Int32} {sm gr bf bh : Nat → Nat} {root fr bk n us fe us' fe' q : Nat} {l o fl : List Nat} (h : rm_J N key sm gr root bf bh fr bk n us fe l o fl) (hq : (∃ fl', fl = q :: fl' ∧ rw_F bh fe' fl' ∧ us' = us) ∨ (fl = [] ∧ q = us + 1 ∧ us' = us + 1 ∧ fe' = 0)) :
    0 < q ∧ q ≤ N + 1 ∧ q ∉ o ∧ q ∉ l ∧ ∃ fl', rw_F bh fe' fl' ∧ (o ++ fl').Nodup ∧ q ∉ fl' ∧ (∀ i ∈ o ++ fl', 0 < i ∧ i ≤ us') ∧ q ≤ us' ∧ us' ≤ N + 1 := by
  have hz := rm_J_z h
  obtain ⟨hT, hD, hF, hn, hb, hm, hl, hu⟩ := h
  rcases hq with ⟨fl', e, hf, eu⟩ | ⟨e, eq, eu, ef⟩
  · subst e
    subst eu
    have n1 := List.nodup_append.mp hn
    have n2 := List.nodup_cons.mp n1.2.1
    have hq := hb q (by simp)
    have ho : q ∉ o := fun w => hz.2.2.2.1 q w (by simp)
    refine ⟨hq.1, by omega, ho, fun w => ho ((hm q).mp w), fl', hf, List.nodup_append.mpr ⟨n1.1, n2.2, fun a ha b hb => n1.2.2 a ha b (by simp [hb])⟩, n2.1, fun i hi => hb i ?_, hq.2, by omega⟩
    rcases List.mem_append.mp hi with w | w
    · simp [w]
    · simp [w]
  · subst e
    subst eu
    subst eq
    have ho : us + 1 ∉ o := fun w => by have := hb (us + 1) (by simp [w]); omega
    refine ⟨by omega, by omega, ho, fun w => ho ((hm _).mp w), [], ef, hn, by simp, fun i hi => ?_, Nat.le_refl _, by omega⟩
    have := hb i hi
    omega
theorem rm_enter {N : Nat} {key vl : Nat → Int32} {sm gr bf bh sm' gr' bf' bh' : Nat → Nat} {root fr bk n us fe us' fe' fr' bk' q : Nat} {l o fl fl' l2 : List Nat} {k v f : Int32} (h : rm_J N key sm gr root bf bh fr bk n us fe l o fl)
    (hq0 : 0 < q) (hqo : q ∉ o) (hF : rw_F bh fe' fl') (hnd : (o ++ fl').Nodup) (hqf : q ∉ fl') (hbd : ∀ i ∈ o ++ fl', 0 < i ∧ i ≤ us') (hqu : q ≤ us') (hus : us' ≤ N + 1)
    (hK : tr_K (va_up key q k) sm' gr' q l2) (hm2 : ∀ i, i ∈ l2 ↔ i = q ∨ i ∈ l) (hD : rw_D bf' bh' fr' bk' (rm_mv f q o)) (hfr : ∀ i, i ∉ o → i ≠ q → bh' i = bh i) :
    rm_I (N + 1) (va_up vl q v) bf' bh' fr' bk' (n + 1) us' fe' (va_up key q k) sm' gr' q (sp_mv f (k, v) (rm_M key vl o)) := by
  obtain ⟨-, -, -, -, -, hm, hl, -⟩ := h
  have n1 := List.nodup_append.mp hnd
  refine ⟨l2, rm_mv f q o, fl', ⟨hK, hD, rw_F_keep fl' fe' hF (fun i hi => hfr i (fun w => n1.2.2 i w i hi rfl) (fun w => hqf (w ▸ hi))), rm_mv_nd hnd hqo hqf, fun i hi => ?_, fun i => ?_, by rw [rm_mv_len, hl], hus⟩, ?_⟩
  · rcases List.mem_append.mp hi with w | w
    · rcases (rm_mv_mem i).mp w with c | c
      · omega
      · exact hbd i (by simp [c])
    · exact hbd i (by simp [w])
  · rw [hm2, rm_mv_mem, hm]
  · exact (rm_mv_M (va_up_self _ _ _) (va_up_self _ _ _) (fun i hi => by
      have : i ≠ q := fun c => hqo (c ▸ hi)
      exact ⟨va_up_ne _ _ this, va_up_ne _ _ this⟩)).symm
theorem rm_move {N : Nat} {key : Nat → Int32} {sm gr sm' gr' bf bh bh1 bf2 bh2 : Nat → Nat} {root root' fr bk n us fe fr2 bk2 p : Nat} {l x y fl : List Nat} {f : Int32} (h : rm_J N key sm gr root bf bh fr bk n us fe l (x ++ p :: y) fl) (hT : tr_K key sm' gr' root' l)
    (h1 : ∀ i, i ∉ x ++ p :: y → bh1 i = bh i) (hD : rw_D bf2 bh2 fr2 bk2 (rm_mv f p (x ++ y))) (h2 : ∀ i, i ∉ x ++ y → i ≠ p → bh2 i = bh1 i) :
    rm_J N key sm' gr' root' bf2 bh2 fr2 bk2 n us fe l (rm_mv f p (x ++ y)) fl := by
  obtain ⟨-, -, hF, hn, hb, hm, hl, hu⟩ := h
  have n1 := List.nodup_append.mp hn
  have n2 := List.nodup_append.mp n1.1
  have n3 := List.nodup_cons.mp n2.2.1
  have mm : ∀ i, i ∈ rm_mv f p (x ++ y) ↔ i ∈ x ++ p :: y := by
    intro i
    rw [rm_mv_mem]
    simp
    grind
  refine ⟨hT, hD, rw_F_keep fl fe hF (fun i hi => ?_), ?_, fun i hi => ?_, fun i => by rw [mm, hm], by rw [rm_mv_len, hl]; simp; omega, hu⟩
  · have c : i ∉ x ++ p :: y := fun w => n1.2.2 i w i hi rfl
    rw [h2 i (fun w => c (by simp at w ⊢; grind)) (fun w => c (by simp [w]))]
    exact h1 i c
  · refine rm_mv_nd ?_ ?_ ?_
    · refine List.nodup_append.mpr ⟨List.nodup_append.mpr ⟨n2.1, n3.2, fun a ha b hb => n2.2.2 a ha b (by simp [hb])⟩, n1.2.1, fun a ha b hb => n1.2.2 a (by simp at ha ⊢; grind) b hb⟩
    · intro w
      rcases List.mem_append.mp w with w | w
      · exact n2.2.2 p w p (by simp) rfl
      · exact n3.1 w
    · exact fun w => n1.2.2 p (by simp) p w rfl
  · rcases List.mem_append.mp hi with w | w
    · exact hb i (List.mem_append_left _ ((mm i).mp w))
    · exact hb i (List.mem_append_right _ w)
theorem rm_remove {N : Nat} {key : Nat → Int32} {sm gr sm' gr' bf bh bf1 bh1 : Nat → Nat} {root root' fr bk n us fe fr1 bk1 p : Nat} {l l2 x y fl : List Nat} (h : rm_J N key sm gr root bf bh fr bk n us fe l (x ++ p :: y) fl) (hT : tr_K key sm' gr' root' l2) (hm2 : ∀ i, i ∈ l2 ↔ i ∈ l ∧ i ≠ p)
    (hD : rw_D bf1 bh1 fr1 bk1 (x ++ y)) (h1 : ∀ i, i ∉ x ++ p :: y → bh1 i = bh i) : rm_J N key sm' gr' root' bf1 (va_up bh1 p fe) fr1 bk1 (n - 1) us p l2 (x ++ y) (p :: fl) := by
  obtain ⟨-, -, hF, hn, hb, hm, hl, hu⟩ := h
  have n1 := List.nodup_append.mp hn
  have n2 := List.nodup_append.mp n1.1
  have n3 := List.nodup_cons.mp n2.2.1
  have hpx : p ∉ x ++ y := by
    intro w
    rcases List.mem_append.mp w with w | w
    · exact n2.2.2 p w p (by simp) rfl
    · exact n3.1 w
  have hpf : p ∉ fl := fun w => n1.2.2 p (by simp) p w rfl
  have sub : ∀ i ∈ x ++ y, i ∈ x ++ p :: y := fun i hi => by simp at hi ⊢; grind
  refine ⟨hT, rw_D_keep hD (fun i hi => ⟨rfl, va_up_ne _ _ (fun w => hpx (w ▸ hi))⟩), rw_F_push (rw_F_keep fl fe hF (fun i hi => h1 i (fun w => n1.2.2 i w i hi rfl))) hpf, ?_, fun i hi => ?_, fun i => ?_, by rw [hl]; simp, hu⟩
  · refine List.nodup_append.mpr ⟨List.nodup_append.mpr ⟨n2.1, n3.2, fun a ha b hb => n2.2.2 a ha b (by simp [hb])⟩, List.nodup_cons.mpr ⟨hpf, n1.2.1⟩, fun a ha b hb => ?_⟩
    rcases List.mem_cons.mp hb with w | w
    · rw [w]; exact fun c => hpx (c ▸ ha)
    · exact n1.2.2 a (sub a ha) b w
  · rcases List.mem_append.mp hi with w | w
    · exact hb i (List.mem_append_left _ (sub i w))
    · rcases List.mem_cons.mp w with w | w
      · rw [w]; exact hb p (by simp)
      · exact hb i (List.mem_append_right _ w)
  · rw [hm2, hm]
    simp
    grind
end MapRows
section MapRows2
theorem rm_J_up {N : Nat} {key : Nat → Int32} {sm gr bf bh : Nat → Nat} {root fr bk n us fe : Nat} {l o fl : List Nat} (h : rm_J N key sm gr root bf bh fr bk n us fe l o fl) : rm_J (N + 1) key sm gr root bf bh fr bk n us fe l o fl := by
  obtain ⟨h1, h2, h3, h4, h5, h6, h7, h8⟩ := h
  exact ⟨h1, h2, h3, h4, h5, h6, h7, by omega⟩
theorem rm_J_tr {N : Nat} {key : Nat → Int32} {sm gr sm' gr' bf bh : Nat → Nat} {root root' fr bk n us fe : Nat} {l o fl : List Nat} (h : rm_J N key sm gr root bf bh fr bk n us fe l o fl) (hT : tr_K key sm' gr' root' l) : rm_J N key sm' gr' root' bf bh fr bk n us fe l o fl := ⟨hT, h.2⟩
theorem rm_J_b {N : Nat} {key : Nat → Int32} {sm gr bf bh : Nat → Nat} {root fr bk n us fe : Nat} {l o fl : List Nat} (h : rm_J N key sm gr root bf bh fr bk n us fe l o fl) (hN : N < 4000) : fr < 4097 ∧ bk < 4097 ∧ n = o.length ∧ us < 4000 ∧ (∀ i ∈ o, 0 < i ∧ i < 4097) ∧ (∀ i ∈ fl, 0 < i ∧ i < 4097) ∧ root < 4097 := by
  have hz := rm_J_z h
  obtain ⟨h1, h2, h3, h4, h5, h6, h7, h8⟩ := h
  have ho : ∀ i ∈ o, 0 < i ∧ i < 4097 := fun i hi => by have := hz.2.2.2.2.1 i hi; omega
  refine ⟨?_, ?_, h7, by omega, ho, fun i hi => by have := hz.2.2.2.2.2 i hi; omega, tr_K_b h1⟩
  · rw [h2.1]
    rcases rw_h_mem o with ⟨-, q⟩ | q
    · omega
    · exact (ho _ q).2
  · rw [h2.2.1]
    rcases rw_l_mem o with ⟨-, q⟩ | q
    · omega
    · exact (ho _ q).2
theorem rm_nd {x y : List Nat} {p : Nat} (h : (x ++ p :: y).Nodup) : (x ++ y).Nodup ∧ p ∉ x ++ y := by
  have n2 := List.nodup_append.mp h
  have n3 := List.nodup_cons.mp n2.2.1
  refine ⟨List.nodup_append.mpr ⟨n2.1, n3.2, fun a ha b hb => n2.2.2 a ha b (by simp [hb])⟩, fun w => ?_⟩
  rcases List.mem_append.mp w with w | w
  · exact n2.2.2 p w p (by simp) rfl
  · exact n3.1 w
theorem rm_first {N : Nat} {key vl : Nat → Int32} {sm gr bf bh : Nat → Nat} {root fr bk n us fe : Nat} {l o fl : List Nat} (h : rm_J N key sm gr root bf bh fr bk n us fe l o fl) (h0 : fr ≠ 0) : sp_fk (rm_M key vl o) = key fr ∧ sp_fv (rm_M key vl o) = sp_get (key fr) (rm_M key vl o) ∧ (rm_M key vl o).tail = sp_rm (key fr) (rm_M key vl o) := by
  have e := h.2.1.1
  cases o with
  | nil => exact absurd e h0
  | cons p o =>
    have e : fr = p := e
    subst e
    refine ⟨rfl, ?_, ?_⟩
    · simp [rm_M, sp_fv, sp_get]
    · simp [rm_M, sp_rm]
theorem rm_last {N : Nat} {key vl : Nat → Int32} {sm gr bf bh : Nat → Nat} {root fr bk n us fe : Nat} {l o fl : List Nat} (h : rm_J N key sm gr root bf bh fr bk n us fe l o fl) (h0 : bk ≠ 0) : sp_lk (rm_M key vl o) = key bk ∧ sp_lv (rm_M key vl o) = sp_get (key bk) (rm_M key vl o) ∧ (rm_M key vl o).dropLast = sp_rm (key bk) (rm_M key vl o) := by
  have e := h.2.1.2.1
  have hne : o ≠ [] := fun q => h0 (by rw [e, q]; rfl)
  obtain ⟨z, ez⟩ := rw_last hne
  rw [← e] at ez
  have hm : bk ∈ o := by rw [ez]; simp
  obtain ⟨x, y, eo, px, py, hno, hg, hr, -, -⟩ := rm_J_at (vl := vl) h hm
  have ey : y = [] := by
    rw [ez] at eo
    rcases List.append_eq_append_iff.mp eo with ⟨w, e1, e2⟩ | ⟨w, e1, e2⟩
    · cases w with
      | nil => simpa using e2.symm
      | cons u w =>
        have := congrArg List.length e2
        simp at this
    · cases w with
      | nil => simpa using e2
      | cons u w =>
        have e3 := (List.cons.inj e2).2
        exact absurd (by rw [e3]; simp) py
  subst ey
  rw [hg, hr, eo, rm_at]
  refine ⟨sp_lk_s _ _, sp_lv_s _ _, by simp [rm_app, rm_M]⟩
theorem rm_empty {N : Nat} {key : Nat → Int32} {sm gr bf bh : Nat → Nat} {root fr bk n us fe : Nat} {l o fl : List Nat} (h : rm_J N key sm gr root bf bh fr bk n us fe l o fl) : (fr = 0 → o = []) ∧ (bk = 0 → o = []) := by
  have hz := rm_J_z h
  exact ⟨fun q => (rw_h_0 hz.1).mp (by rw [← h.2.1.1]; exact q), fun q => (rw_l_0 hz.1).mp (by rw [← h.2.1.2.1]; exact q)⟩
theorem rm_clear (N : Nat) (key vl : Nat → Int32) (sm gr bf bh : Nat → Nat) : rm_I N vl bf bh 0 0 0 0 0 key sm gr 0 [] :=
  ⟨[], [], [], ⟨⟨tr_0, List.Pairwise.nil, fun i hi => by simp at hi⟩, rw_D_nil, rfl, by simp, fun i hi => by simp at hi, fun i => Iff.rfl, rfl, Nat.zero_le _⟩, rfl⟩
end MapRows2
end
section
/-! TREE: contracts (printed by gen/tree.py) -/
set_option maxHeartbeats 4000000 in
set_option maxRecDepth 100000 in
/-- clear: no root -/
theorem c_T_clear (l : Launch) (D : va_G) (cA : ClassId) (h qk qs qg hz : Nat) (key : Nat → Int32) (sm gr : Nat → Nat) (root : Nat)   : xm_V l D cA y_T_clear b_T_clear 1 ({ frames := 0, cells := 0, slots := 0, locals := 0 }) [.ref h] (ce_T cA h qk qs qg key sm gr root) hz (fun _ : Unit => True) (fun _ : Unit => ce_T cA h qk qs qg key sm gr 0) := by
  refine xm_V_of (by decide) (Nat.le_of_ble_eq_true rfl) ?_
  intro p e s m below meth c A Q ls hx hb hml hown hts hl hP hK hD hS hA hret
  have hown : s.vm.findClass "RecentMap$Tree" = some m.cls := hown
  have hl : lv_has ls 1 [(0, .ref h)] := hl
  refine lv_aload_n hx hb d_T_clear_0 rfl (lv_at hl 0 rfl) ?_
  refine lv_iconst (v := 0) hx hb d_T_clear_1 (by decide) ?_
  refine xp_T hx hb hts hown hK hP hD hS 0 rfl 3 (by decide) k_31 (.int (nI 0)) rfl rfl rfl (Nat.le_of_ble_eq_true rfl) d_T_clear_2 (fun H locs hP hD hS => ?_)
  have hP : va_P D classes (ce_T cA h qk qs qg key sm gr 0) H := hP
  have hD : va_D A (ce_T cA h qk qs qg key sm gr 0) := hD
  exact hret 5 _ _ _ () d_T_clear_5 trivial hP hD hS
set_option maxHeartbeats 4000000 in
set_option maxRecDepth 100000 in
/-- lift: what is nearest to the key becomes the root -/
theorem c_T_lift (l : Launch) (D : va_G) (cA : ClassId) (h qk qs qg hz : Nat) (key : Nat → Int32) (sm gr : Nat → Nat) (root : Nat) (k : Int32) (lst : List Nat) (hT : tr_K key sm gr root lst) : xm_V l D cA y_T_lift b_T_lift 10 ({ frames := 0, cells := 0, slots := 0, locals := 0 }) [.ref h, .int k] (ce_T cA h qk qs qg key sm gr root) hz (fun u : (Nat → Nat) × (Nat → Nat) × Nat => (root = 0 ∧ u.1 = sm ∧ u.2.1 = gr ∧ u.2.2 = 0) ∨ (root ≠ 0 ∧ tr_P key k sm gr lst u.1 u.2.1 u.2.2)) (fun u : (Nat → Nat) × (Nat → Nat) × Nat => ce_T cA h qk qs qg key u.1 u.2.1 u.2.2) := by
  refine xm_V_of (by decide) (Nat.le_of_ble_eq_true rfl) ?_
  intro p e s m below meth c A Q ls hx hb hml hown hts hl hP hK hD hS hA hret
  have hown : s.vm.findClass "RecentMap$Tree" = some m.cls := hown
  have hl : lv_has ls 10 [(0, .ref h), (1, .int k)] := hl
  have hbd : ∀ i ∈ lst, i < 4097 := fun i hi => (hT.2.2 i hi).2
  have hb0 : ∀ {i : Nat}, i = 0 ∨ i ∈ lst → i < 4097 := fun {i} q => by
    rcases q with q | q
    · omega
    · exact hbd i q
  have hroot : root < 4097 := tr_K_b hT
  have hE : ∀ (sm1 gr1 : Nat → Nat) (t low high nn : Nat) (H : Heap) (locs : List Loc) (ls : Array Slot), va_P D classes (ce_T cA h qk qs qg key sm1 gr1 root) H → va_D A (ce_T cA h qk qs qg key sm1 gr1 root) → va_S A s.heap H locs → tr_I key k sm gr lst sm1 gr1 t low high nn → root ≠ 0 → (key t = k ∨ (k < key t ∧ sm1 t = 0) ∨ (key t < k ∧ gr1 t = 0)) → lv_has ls 10 [(0, .ref h), (1, .int k), (2, .int (nI t)), (3, .int (nI low)), (4, .int (nI high))] → W p l e ({ frames := 0, cells := 0, slots := 0, locals := 0 }) s m [.ref h, .int k].toArray below meth c H locs 0 0 Q (F0 m 259 ls []) := by
    intro sm1 gr1 t low high nn H locs ls hP hD hS hI hr0 hc hl
    have ha := tr_I_at hI
    have ht := hbd t ha.1
    have hlo := hb0 ha.2.2.2.2.1
    have hhi := hb0 ha.2.2.2.2.2
    refine lv_aload_n hx hb d_T_lift_259 rfl (lv_at hl 0 rfl) ?_
    refine xg_T hx hb hts hown hK hP 0 rfl 1 (by decide) k_29 rfl d_T_lift_260 ?_
    refine lv_iload_n hx hb d_T_lift_263 rfl (lv_at hl 2 rfl) ?_
    refine xn_ald hx hb hK hP 2 rfl t (by omega) (by decide) d_T_lift_264 ?_
    refine lv_istore (lv' := [(6, .int (nI (sm1 t))), (0, .ref h), (1, .int k), (2, .int (nI t)), (3, .int (nI low)), (4, .int (nI high))]) hx hb d_T_lift_265 hl (by decide) rfl (fun ls hl => ?_)
    refine lv_aload_n hx hb d_T_lift_267 rfl (lv_at hl 1 rfl) ?_
    refine xg_T hx hb hts hown hK hP 0 rfl 2 (by decide) k_30 rfl d_T_lift_268 ?_
    refine lv_iload_n hx hb d_T_lift_271 rfl (lv_at hl 3 rfl) ?_
    refine xn_ald hx hb hK hP 3 rfl t (by omega) (by decide) d_T_lift_272 ?_
    refine lv_istore (lv' := [(7, .int (nI (gr1 t))), (6, .int (nI (sm1 t))), (0, .ref h), (1, .int k), (2, .int (nI t)), (3, .int (nI low)), (4, .int (nI high))]) hx hb d_T_lift_273 hl (by decide) rfl (fun ls hl => ?_)
    refine lv_iconst (v := 0) hx hb d_T_lift_275 (by decide) ?_
    refine lv_istore (lv' := [(8, .int 0), (7, .int (nI (gr1 t))), (6, .int (nI (sm1 t))), (0, .ref h), (1, .int k), (2, .int (nI t)), (3, .int (nI low)), (4, .int (nI high))]) hx hb d_T_lift_276 hl (by decide) rfl (fun ls hl => ?_)
    refine lv_iconst (v := 0) hx hb d_T_lift_278 (by decide) ?_
    refine lv_istore (lv' := [(9, .int 0), (8, .int 0), (7, .int (nI (gr1 t))), (6, .int (nI (sm1 t))), (0, .ref h), (1, .int k), (2, .int (nI t)), (3, .int (nI low)), (4, .int (nI high))]) hx hb d_T_lift_279 hl (by decide) rfl (fun ls hl => ?_)
    refine lv_iload_n hx hb d_T_lift_281 rfl (lv_at hl 7 rfl) ?_
    refine xn_ifne hx hb low (by omega) (tgt := 292) d_T_lift_282 (by decide) (fun cl => ?_) (fun cl => ?_)
    · refine lv_aload_n hx hb d_T_lift_292 rfl (lv_at hl 4 rfl) ?_
      refine xg_T hx hb hts hown hK hP 0 rfl 2 (by decide) k_30 rfl d_T_lift_293 ?_
      refine lv_iload_n hx hb d_T_lift_296 rfl (lv_at hl 7 rfl) ?_
      refine lv_iload hx hb d_T_lift_297 (lv_at hl 3 rfl) ?_
      refine xn_ast hx hb hK hP hD hS 3 rfl low (sm1 t) (by omega) (by decide) d_T_lift_299 (fun H locs hP hD hS => ?_)
      have hP : va_P D classes (ce_T cA h qk qs qg key sm1 (va_up gr1 low (sm1 t)) root) H := hP
      have hD : va_D A (ce_T cA h qk qs qg key sm1 (va_up gr1 low (sm1 t)) root) := hD
      refine lv_aload_n hx hb d_T_lift_300 rfl (lv_at hl 4 rfl) ?_
      refine xg_T hx hb hts hown hK hP 0 rfl 2 (by decide) k_30 rfl d_T_lift_301 ?_
      refine lv_iconst (v := 0) hx hb d_T_lift_304 (by decide) ?_
      refine xn_ald hx hb hK hP 3 rfl 0 (by omega) (by decide) d_T_lift_305 ?_
      refine lv_istore (lv' := [(8, .int (nI ((va_up gr1 low (sm1 t)) 0))), (9, .int 0), (7, .int (nI (gr1 t))), (6, .int (nI (sm1 t))), (0, .ref h), (1, .int k), (2, .int (nI t)), (3, .int (nI low)), (4, .int (nI high))]) hx hb d_T_lift_306 hl (by decide) rfl (fun ls hl => ?_)
      refine lv_iload hx hb d_T_lift_308 (lv_at hl 8 rfl) ?_
      refine xn_ifne hx hb high (by omega) (tgt := 320) d_T_lift_310 (by decide) (fun ch => ?_) (fun ch => ?_)
      · refine lv_aload_n hx hb d_T_lift_320 rfl (lv_at hl 4 rfl) ?_
        refine xg_T hx hb hts hown hK hP 0 rfl 1 (by decide) k_29 rfl d_T_lift_321 ?_
        refine lv_iload hx hb d_T_lift_324 (lv_at hl 8 rfl) ?_
        refine lv_iload hx hb d_T_lift_326 (lv_at hl 2 rfl) ?_
        refine xn_ast hx hb hK hP hD hS 2 rfl high (gr1 t) (by omega) (by decide) d_T_lift_328 (fun H locs hP hD hS => ?_)
        have hP : va_P D classes (ce_T cA h qk qs qg key (va_up sm1 high (gr1 t)) (va_up gr1 low (sm1 t)) root) H := hP
        have hD : va_D A (ce_T cA h qk qs qg key (va_up sm1 high (gr1 t)) (va_up gr1 low (sm1 t)) root) := hD
        refine lv_aload_n hx hb d_T_lift_329 rfl (lv_at hl 4 rfl) ?_
        refine xg_T hx hb hts hown hK hP 0 rfl 1 (by decide) k_29 rfl d_T_lift_330 ?_
        refine lv_iconst (v := 0) hx hb d_T_lift_333 (by decide) ?_
        refine xn_ald hx hb hK hP 2 rfl 0 (by omega) (by decide) d_T_lift_334 ?_
        refine lv_istore (lv' := [(9, .int (nI ((va_up sm1 high (gr1 t)) 0))), (8, .int (nI ((va_up gr1 low (sm1 t)) 0))), (7, .int (nI (gr1 t))), (6, .int (nI (sm1 t))), (0, .ref h), (1, .int k), (2, .int (nI t)), (3, .int (nI low)), (4, .int (nI high))]) hx hb d_T_lift_335 hl (by decide) rfl (fun ls hl => ?_)
        refine lv_aload_n hx hb d_T_lift_337 rfl (lv_at hl 4 rfl) ?_
        refine xg_T hx hb hts hown hK hP 0 rfl 1 (by decide) k_29 rfl d_T_lift_338 ?_
        refine lv_iload_n hx hb d_T_lift_341 rfl (lv_at hl 6 rfl) ?_
        refine lv_iload hx hb d_T_lift_342 (lv_at hl 1 rfl) ?_
        refine xn_ast hx hb hK hP hD hS 2 rfl t ((va_up gr1 low (sm1 t)) 0) (by omega) (by decide) d_T_lift_344 (fun H locs hP hD hS => ?_)
        have hP : va_P D classes (ce_T cA h qk qs qg key (va_up (va_up sm1 high (gr1 t)) t ((va_up gr1 low (sm1 t)) 0)) (va_up gr1 low (sm1 t)) root) H := hP
        have hD : va_D A (ce_T cA h qk qs qg key (va_up (va_up sm1 high (gr1 t)) t ((va_up gr1 low (sm1 t)) 0)) (va_up gr1 low (sm1 t)) root) := hD
        refine lv_aload_n hx hb d_T_lift_345 rfl (lv_at hl 4 rfl) ?_
        refine xg_T hx hb hts hown hK hP 0 rfl 2 (by decide) k_30 rfl d_T_lift_346 ?_
        refine lv_iload_n hx hb d_T_lift_349 rfl (lv_at hl 6 rfl) ?_
        refine lv_iload hx hb d_T_lift_350 (lv_at hl 0 rfl) ?_
        refine xn_ast hx hb hK hP hD hS 3 rfl t ((va_up sm1 high (gr1 t)) 0) (by omega) (by decide) d_T_lift_352 (fun H locs hP hD hS => ?_)
        have hP : va_P D classes (ce_T cA h qk qs qg key (va_up (va_up sm1 high (gr1 t)) t ((va_up gr1 low (sm1 t)) 0)) (va_up (va_up gr1 low (sm1 t)) t ((va_up sm1 high (gr1 t)) 0)) root) H := hP
        have hD : va_D A (ce_T cA h qk qs qg key (va_up (va_up sm1 high (gr1 t)) t ((va_up gr1 low (sm1 t)) 0)) (va_up (va_up gr1 low (sm1 t)) t ((va_up sm1 high (gr1 t)) 0)) root) := hD
        refine lv_aload_n hx hb d_T_lift_353 rfl (lv_at hl 4 rfl) ?_
        refine lv_iload_n hx hb d_T_lift_354 rfl (lv_at hl 6 rfl) ?_
        refine xp_T hx hb hts hown hK hP hD hS 0 rfl 3 (by decide) k_31 (.int (nI t)) rfl rfl rfl (Nat.le_of_ble_eq_true rfl) d_T_lift_355 (fun H locs hP hD hS => ?_)
        have hP : va_P D classes (ce_T cA h qk qs qg key (va_up (va_up sm1 high (gr1 t)) t ((va_up gr1 low (sm1 t)) 0)) (va_up (va_up gr1 low (sm1 t)) t ((va_up sm1 high (gr1 t)) 0)) t) H := hP
        have hD : va_D A (ce_T cA h qk qs qg key (va_up (va_up sm1 high (gr1 t)) t ((va_up gr1 low (sm1 t)) 0)) (va_up (va_up gr1 low (sm1 t)) t ((va_up sm1 high (gr1 t)) 0)) t) := hD
        exact hret 358 _ _ _ (va_up (va_up sm1 high (gr1 t)) t ((va_up gr1 low (sm1 t)) 0), va_up (va_up gr1 low (sm1 t)) t ((va_up sm1 high (gr1 t)) 0), t) d_T_lift_358 (Or.inr ⟨hr0, tr_I_fin hI hc (Or.inr ⟨cl, rfl, rfl⟩) (Or.inr ⟨ch, rfl, rfl⟩)⟩) hP hD hS
      · refine lv_iload hx hb d_T_lift_313 (lv_at hl 2 rfl) ?_
        refine lv_istore (lv' := [(9, .int (nI (gr1 t))), (8, .int (nI ((va_up gr1 low (sm1 t)) 0))), (7, .int (nI (gr1 t))), (6, .int (nI (sm1 t))), (0, .ref h), (1, .int k), (2, .int (nI t)), (3, .int (nI low)), (4, .int (nI high))]) hx hb d_T_lift_315 hl (by decide) rfl (fun ls hl => ?_)
        refine lv_goto (tgt := 337) hx hb d_T_lift_317 (by decide) ?_
        refine lv_aload_n hx hb d_T_lift_337 rfl (lv_at hl 4 rfl) ?_
        refine xg_T hx hb hts hown hK hP 0 rfl 1 (by decide) k_29 rfl d_T_lift_338 ?_
        refine lv_iload_n hx hb d_T_lift_341 rfl (lv_at hl 6 rfl) ?_
        refine lv_iload hx hb d_T_lift_342 (lv_at hl 1 rfl) ?_
        refine xn_ast hx hb hK hP hD hS 2 rfl t ((va_up gr1 low (sm1 t)) 0) (by omega) (by decide) d_T_lift_344 (fun H locs hP hD hS => ?_)
        have hP : va_P D classes (ce_T cA h qk qs qg key (va_up sm1 t ((va_up gr1 low (sm1 t)) 0)) (va_up gr1 low (sm1 t)) root) H := hP
        have hD : va_D A (ce_T cA h qk qs qg key (va_up sm1 t ((va_up gr1 low (sm1 t)) 0)) (va_up gr1 low (sm1 t)) root) := hD
        refine lv_aload_n hx hb d_T_lift_345 rfl (lv_at hl 4 rfl) ?_
        refine xg_T hx hb hts hown hK hP 0 rfl 2 (by decide) k_30 rfl d_T_lift_346 ?_
        refine lv_iload_n hx hb d_T_lift_349 rfl (lv_at hl 6 rfl) ?_
        refine lv_iload hx hb d_T_lift_350 (lv_at hl 0 rfl) ?_
        refine xn_ast hx hb hK hP hD hS 3 rfl t (gr1 t) (by omega) (by decide) d_T_lift_352 (fun H locs hP hD hS => ?_)
        have hP : va_P D classes (ce_T cA h qk qs qg key (va_up sm1 t ((va_up gr1 low (sm1 t)) 0)) (va_up (va_up gr1 low (sm1 t)) t (gr1 t)) root) H := hP
        have hD : va_D A (ce_T cA h qk qs qg key (va_up sm1 t ((va_up gr1 low (sm1 t)) 0)) (va_up (va_up gr1 low (sm1 t)) t (gr1 t)) root) := hD
        refine lv_aload_n hx hb d_T_lift_353 rfl (lv_at hl 4 rfl) ?_
        refine lv_iload_n hx hb d_T_lift_354 rfl (lv_at hl 6 rfl) ?_
        refine xp_T hx hb hts hown hK hP hD hS 0 rfl 3 (by decide) k_31 (.int (nI t)) rfl rfl rfl (Nat.le_of_ble_eq_true rfl) d_T_lift_355 (fun H locs hP hD hS => ?_)
        have hP : va_P D classes (ce_T cA h qk qs qg key (va_up sm1 t ((va_up gr1 low (sm1 t)) 0)) (va_up (va_up gr1 low (sm1 t)) t (gr1 t)) t) H := hP
        have hD : va_D A (ce_T cA h qk qs qg key (va_up sm1 t ((va_up gr1 low (sm1 t)) 0)) (va_up (va_up gr1 low (sm1 t)) t (gr1 t)) t) := hD
        exact hret 358 _ _ _ (va_up sm1 t ((va_up gr1 low (sm1 t)) 0), va_up (va_up gr1 low (sm1 t)) t (gr1 t), t) d_T_lift_358 (Or.inr ⟨hr0, tr_I_fin hI hc (Or.inr ⟨cl, rfl, rfl⟩) (Or.inl ⟨ch, rfl, rfl⟩)⟩) hP hD hS
    · refine lv_iload hx hb d_T_lift_285 (lv_at hl 3 rfl) ?_
      refine lv_istore (lv' := [(8, .int (nI (sm1 t))), (9, .int 0), (7, .int (nI (gr1 t))), (6, .int (nI (sm1 t))), (0, .ref h), (1, .int k), (2, .int (nI t)), (3, .int (nI low)), (4, .int (nI high))]) hx hb d_T_lift_287 hl (by decide) rfl (fun ls hl => ?_)
      refine lv_goto (tgt := 308) hx hb d_T_lift_289 (by decide) ?_
      refine lv_iload hx hb d_T_lift_308 (lv_at hl 8 rfl) ?_
      refine xn_ifne hx hb high (by omega) (tgt := 320) d_T_lift_310 (by decide) (fun ch => ?_) (fun ch => ?_)
      · refine lv_aload_n hx hb d_T_lift_320 rfl (lv_at hl 4 rfl) ?_
        refine xg_T hx hb hts hown hK hP 0 rfl 1 (by decide) k_29 rfl d_T_lift_321 ?_
        refine lv_iload hx hb d_T_lift_324 (lv_at hl 8 rfl) ?_
        refine lv_iload hx hb d_T_lift_326 (lv_at hl 2 rfl) ?_
        refine xn_ast hx hb hK hP hD hS 2 rfl high (gr1 t) (by omega) (by decide) d_T_lift_328 (fun H locs hP hD hS => ?_)
        have hP : va_P D classes (ce_T cA h qk qs qg key (va_up sm1 high (gr1 t)) gr1 root) H := hP
        have hD : va_D A (ce_T cA h qk qs qg key (va_up sm1 high (gr1 t)) gr1 root) := hD
        refine lv_aload_n hx hb d_T_lift_329 rfl (lv_at hl 4 rfl) ?_
        refine xg_T hx hb hts hown hK hP 0 rfl 1 (by decide) k_29 rfl d_T_lift_330 ?_
        refine lv_iconst (v := 0) hx hb d_T_lift_333 (by decide) ?_
        refine xn_ald hx hb hK hP 2 rfl 0 (by omega) (by decide) d_T_lift_334 ?_
        refine lv_istore (lv' := [(9, .int (nI ((va_up sm1 high (gr1 t)) 0))), (8, .int (nI (sm1 t))), (7, .int (nI (gr1 t))), (6, .int (nI (sm1 t))), (0, .ref h), (1, .int k), (2, .int (nI t)), (3, .int (nI low)), (4, .int (nI high))]) hx hb d_T_lift_335 hl (by decide) rfl (fun ls hl => ?_)
        refine lv_aload_n hx hb d_T_lift_337 rfl (lv_at hl 4 rfl) ?_
        refine xg_T hx hb hts hown hK hP 0 rfl 1 (by decide) k_29 rfl d_T_lift_338 ?_
        refine lv_iload_n hx hb d_T_lift_341 rfl (lv_at hl 6 rfl) ?_
        refine lv_iload hx hb d_T_lift_342 (lv_at hl 1 rfl) ?_
        refine xn_ast hx hb hK hP hD hS 2 rfl t (sm1 t) (by omega) (by decide) d_T_lift_344 (fun H locs hP hD hS => ?_)
        have hP : va_P D classes (ce_T cA h qk qs qg key (va_up (va_up sm1 high (gr1 t)) t (sm1 t)) gr1 root) H := hP
        have hD : va_D A (ce_T cA h qk qs qg key (va_up (va_up sm1 high (gr1 t)) t (sm1 t)) gr1 root) := hD
        refine lv_aload_n hx hb d_T_lift_345 rfl (lv_at hl 4 rfl) ?_
        refine xg_T hx hb hts hown hK hP 0 rfl 2 (by decide) k_30 rfl d_T_lift_346 ?_
        refine lv_iload_n hx hb d_T_lift_349 rfl (lv_at hl 6 rfl) ?_
        refine lv_iload hx hb d_T_lift_350 (lv_at hl 0 rfl) ?_
        refine xn_ast hx hb hK hP hD hS 3 rfl t ((va_up sm1 high (gr1 t)) 0) (by omega) (by decide) d_T_lift_352 (fun H locs hP hD hS => ?_)
        have hP : va_P D classes (ce_T cA h qk qs qg key (va_up (va_up sm1 high (gr1 t)) t (sm1 t)) (va_up gr1 t ((va_up sm1 high (gr1 t)) 0)) root) H := hP
        have hD : va_D A (ce_T cA h qk qs qg key (va_up (va_up sm1 high (gr1 t)) t (sm1 t)) (va_up gr1 t ((va_up sm1 high (gr1 t)) 0)) root) := hD
        refine lv_aload_n hx hb d_T_lift_353 rfl (lv_at hl 4 rfl) ?_
        refine lv_iload_n hx hb d_T_lift_354 rfl (lv_at hl 6 rfl) ?_
        refine xp_T hx hb hts hown hK hP hD hS 0 rfl 3 (by decide) k_31 (.int (nI t)) rfl rfl rfl (Nat.le_of_ble_eq_true rfl) d_T_lift_355 (fun H locs hP hD hS => ?_)
        have hP : va_P D classes (ce_T cA h qk qs qg key (va_up (va_up sm1 high (gr1 t)) t (sm1 t)) (va_up gr1 t ((va_up sm1 high (gr1 t)) 0)) t) H := hP
        have hD : va_D A (ce_T cA h qk qs qg key (va_up (va_up sm1 high (gr1 t)) t (sm1 t)) (va_up gr1 t ((va_up sm1 high (gr1 t)) 0)) t) := hD
        exact hret 358 _ _ _ (va_up (va_up sm1 high (gr1 t)) t (sm1 t), va_up gr1 t ((va_up sm1 high (gr1 t)) 0), t) d_T_lift_358 (Or.inr ⟨hr0, tr_I_fin hI hc (Or.inl ⟨cl, rfl, rfl⟩) (Or.inr ⟨ch, rfl, rfl⟩)⟩) hP hD hS
      · refine lv_iload hx hb d_T_lift_313 (lv_at hl 2 rfl) ?_
        refine lv_istore (lv' := [(9, .int (nI (gr1 t))), (8, .int (nI (sm1 t))), (7, .int (nI (gr1 t))), (6, .int (nI (sm1 t))), (0, .ref h), (1, .int k), (2, .int (nI t)), (3, .int (nI low)), (4, .int (nI high))]) hx hb d_T_lift_315 hl (by decide) rfl (fun ls hl => ?_)
        refine lv_goto (tgt := 337) hx hb d_T_lift_317 (by decide) ?_
        refine lv_aload_n hx hb d_T_lift_337 rfl (lv_at hl 4 rfl) ?_
        refine xg_T hx hb hts hown hK hP 0 rfl 1 (by decide) k_29 rfl d_T_lift_338 ?_
        refine lv_iload_n hx hb d_T_lift_341 rfl (lv_at hl 6 rfl) ?_
        refine lv_iload hx hb d_T_lift_342 (lv_at hl 1 rfl) ?_
        refine xn_ast hx hb hK hP hD hS 2 rfl t (sm1 t) (by omega) (by decide) d_T_lift_344 (fun H locs hP hD hS => ?_)
        have hP : va_P D classes (ce_T cA h qk qs qg key (va_up sm1 t (sm1 t)) gr1 root) H := hP
        have hD : va_D A (ce_T cA h qk qs qg key (va_up sm1 t (sm1 t)) gr1 root) := hD
        refine lv_aload_n hx hb d_T_lift_345 rfl (lv_at hl 4 rfl) ?_
        refine xg_T hx hb hts hown hK hP 0 rfl 2 (by decide) k_30 rfl d_T_lift_346 ?_
        refine lv_iload_n hx hb d_T_lift_349 rfl (lv_at hl 6 rfl) ?_
        refine lv_iload hx hb d_T_lift_350 (lv_at hl 0 rfl) ?_
        refine xn_ast hx hb hK hP hD hS 3 rfl t (gr1 t) (by omega) (by decide) d_T_lift_352 (fun H locs hP hD hS => ?_)
        have hP : va_P D classes (ce_T cA h qk qs qg key (va_up sm1 t (sm1 t)) (va_up gr1 t (gr1 t)) root) H := hP
        have hD : va_D A (ce_T cA h qk qs qg key (va_up sm1 t (sm1 t)) (va_up gr1 t (gr1 t)) root) := hD
        refine lv_aload_n hx hb d_T_lift_353 rfl (lv_at hl 4 rfl) ?_
        refine lv_iload_n hx hb d_T_lift_354 rfl (lv_at hl 6 rfl) ?_
        refine xp_T hx hb hts hown hK hP hD hS 0 rfl 3 (by decide) k_31 (.int (nI t)) rfl rfl rfl (Nat.le_of_ble_eq_true rfl) d_T_lift_355 (fun H locs hP hD hS => ?_)
        have hP : va_P D classes (ce_T cA h qk qs qg key (va_up sm1 t (sm1 t)) (va_up gr1 t (gr1 t)) t) H := hP
        have hD : va_D A (ce_T cA h qk qs qg key (va_up sm1 t (sm1 t)) (va_up gr1 t (gr1 t)) t) := hD
        exact hret 358 _ _ _ (va_up sm1 t (sm1 t), va_up gr1 t (gr1 t), t) d_T_lift_358 (Or.inr ⟨hr0, tr_I_fin hI hc (Or.inl ⟨cl, rfl, rfl⟩) (Or.inl ⟨ch, rfl, rfl⟩)⟩) hP hD hS
  have hL : ∀ (N : Nat), ∀ (sm1 gr1 : Nat → Nat) (t low high nn : Nat) (H : Heap) (locs : List Loc) (ls : Array Slot), va_P D classes (ce_T cA h qk qs qg key sm1 gr1 root) H → va_D A (ce_T cA h qk qs qg key sm1 gr1 root) → va_S A s.heap H locs → tr_I key k sm gr lst sm1 gr1 t low high nn → nn ≤ N → root ≠ 0 → key t ≠ k → lv_has ls 10 [(0, .ref h), (1, .int k), (2, .int (nI t)), (3, .int (nI low)), (4, .int (nI high))] → W p l e ({ frames := 0, cells := 0, slots := 0, locals := 0 }) s m [.ref h, .int k].toArray below meth c H locs 0 0 Q (F0 m 54 ls []) := by
    intro N
    induction N with
    | zero =>
      intro sm1 gr1 t low high nn H locs ls hP hD hS hI hn
      exfalso
      obtain ⟨la, mid, lb, e, hm, hJ, -⟩ := hI
      have := (tr_J_at hJ).1
      cases mid with
      | nil => simp at this
      | cons z mid => simp at hm; omega
    | succ N ih =>
      have hB : ∀ (sm1 gr1 : Nat → Nat) (t low high nn : Nat) (H : Heap) (locs : List Loc) (ls : Array Slot), va_P D classes (ce_T cA h qk qs qg key sm1 gr1 root) H → va_D A (ce_T cA h qk qs qg key sm1 gr1 root) → va_S A s.heap H locs → tr_I key k sm gr lst sm1 gr1 t low high nn → nn ≤ N → root ≠ 0 → ∀ (t0 : Nat) (g6 : Int32), lv_has ls 10 [(0, .ref h), (1, .int k), (2, .int (nI t0)), (3, .int (nI low)), (4, .int (nI high)), (6, .int g6), (7, .int (nI t))] → W p l e ({ frames := 0, cells := 0, slots := 0, locals := 0 }) s m [.ref h, .int k].toArray below meth c H locs 0 0 Q (F0 m 236 ls []) := by
        intro sm1 gr1 t low high nn H locs ls hP hD hS hI hn hr0 t0 g6 hl
        have ha := tr_I_at hI
        have ht := hbd t ha.1
        refine lv_iload hx hb d_T_lift_236 (lv_at hl 6 rfl) ?_
        refine lv_istore_n (lv' := [(2, .int (nI t)), (0, .ref h), (1, .int k), (3, .int (nI low)), (4, .int (nI high)), (6, .int g6), (7, .int (nI t))]) hx hb d_T_lift_238 rfl hl (by decide) rfl (fun ls hl => ?_)
        refine lv_aload_n hx hb d_T_lift_239 rfl (lv_at hl 1 rfl) ?_
        refine xg_T hx hb hts hown hK hP 0 rfl 0 (by decide) k_27 rfl d_T_lift_240 ?_
        refine lv_iload_n hx hb d_T_lift_243 rfl (lv_at hl 0 rfl) ?_
        refine xk_ald hx hb hK hP 1 rfl t (by omega) (by decide) d_T_lift_244 ?_
        refine lv_iload_n hx hb d_T_lift_245 rfl (lv_at hl 2 rfl) ?_
        refine lv_icmp_eq (tgt := 253) hx hb d_T_lift_246 (by decide) (fun ck => ?_) (fun ck => ?_)
        · refine lv_iconst (v := 0) hx hb d_T_lift_253 (by decide) ?_
          refine lv_istore (lv' := [(5, .int 0), (2, .int (nI t)), (0, .ref h), (1, .int k), (3, .int (nI low)), (4, .int (nI high)), (6, .int g6), (7, .int (nI t))]) hx hb d_T_lift_254 hl (by decide) rfl (fun ls hl => ?_)
          refine lv_goto (tgt := 49) hx hb d_T_lift_256 (by decide) ?_
          refine lv_iload hx hb d_T_lift_49 (lv_at hl 0 rfl) ?_
          refine lv_if_eq (tgt := 259) hx hb d_T_lift_51 (by decide) (fun _ => ?_) (fun q => absurd rfl q)
          exact hE sm1 gr1 t low high nn _ _ _ hP hD hS hI hr0 (Or.inl ck) (lv_sub hl [2, 3, 1, 4, 5] rfl)
        · refine lv_iconst (v := 1) hx hb d_T_lift_249 (by decide) ?_
          refine lv_goto (tgt := 254) hx hb d_T_lift_250 (by decide) ?_
          refine lv_istore (lv' := [(5, .int 1), (2, .int (nI t)), (0, .ref h), (1, .int k), (3, .int (nI low)), (4, .int (nI high)), (6, .int g6), (7, .int (nI t))]) hx hb d_T_lift_254 hl (by decide) rfl (fun ls hl => ?_)
          refine lv_goto (tgt := 49) hx hb d_T_lift_256 (by decide) ?_
          refine lv_iload hx hb d_T_lift_49 (lv_at hl 0 rfl) ?_
          refine lv_if_eq (tgt := 259) hx hb d_T_lift_51 (by decide) (fun q => absurd q (by decide)) (fun _ => ?_)
          exact ih sm1 gr1 t low high nn _ _ _ hP hD hS hI hn hr0 ck (lv_sub hl [2, 3, 1, 4, 5] rfl)
      intro sm1 gr1 t low high nn H locs ls hP hD hS hI hn hr0 hne hl
      have ha := tr_I_at hI
      have ht := hbd t ha.1
      have hlo := hb0 ha.2.2.2.2.1
      have hhi := hb0 ha.2.2.2.2.2
      have hs1 := hb0 ha.2.2.1
      have hg1 := hb0 ha.2.2.2.1
      refine lv_iload_n hx hb d_T_lift_54 rfl (lv_at hl 1 rfl) ?_
      refine lv_aload_n hx hb d_T_lift_55 rfl (lv_at hl 0 rfl) ?_
      refine xg_T hx hb hts hown hK hP 0 rfl 0 (by decide) k_27 rfl d_T_lift_56 ?_
      refine lv_iload_n hx hb d_T_lift_59 rfl (lv_at hl 2 rfl) ?_
      refine xk_ald hx hb hK hP 1 rfl t (by omega) (by decide) d_T_lift_60 ?_
      refine lv_icmp_ge (tgt := 68) hx hb d_T_lift_61 (by decide) (fun cd => ?_) (fun cd => ?_)
      · have hkt : key t < k := Int32.lt_of_le_of_ne cd hne
        refine lv_iconst (v := 0) hx hb d_T_lift_68 (by decide) ?_
        refine lv_istore (lv' := [(6, .int 0), (0, .ref h), (1, .int k), (2, .int (nI t)), (3, .int (nI low)), (4, .int (nI high))]) hx hb d_T_lift_69 hl (by decide) rfl (fun ls hl => ?_)
        refine lv_iload hx hb d_T_lift_71 (lv_at hl 0 rfl) ?_
        refine lv_if_eq (tgt := 85) hx hb d_T_lift_73 (by decide) (fun _ => ?_) (fun q => absurd rfl q)
        refine lv_aload_n hx hb d_T_lift_85 rfl (lv_at hl 1 rfl) ?_
        refine xg_T hx hb hts hown hK hP 0 rfl 2 (by decide) k_30 rfl d_T_lift_86 ?_
        refine lv_iload_n hx hb d_T_lift_89 rfl (lv_at hl 3 rfl) ?_
        refine xn_ald hx hb hK hP 3 rfl t (by omega) (by decide) d_T_lift_90 ?_
        refine lv_istore (lv' := [(7, .int (nI (gr1 t))), (6, .int 0), (0, .ref h), (1, .int k), (2, .int (nI t)), (3, .int (nI low)), (4, .int (nI high))]) hx hb d_T_lift_91 hl (by decide) rfl (fun ls hl => ?_)
        refine lv_iload hx hb d_T_lift_93 (lv_at hl 0 rfl) ?_
        refine xn_ifne hx hb (gr1 t) (by omega) (tgt := 101) d_T_lift_95 (by decide) (fun cn => ?_) (fun cn => ?_)
        · refine lv_iload hx hb d_T_lift_101 (lv_at hl 1 rfl) ?_
          refine lv_if_eq (tgt := 152) hx hb d_T_lift_103 (by decide) (fun _ => ?_) (fun q => absurd rfl q)
          refine lv_iload hx hb d_T_lift_152 (lv_at hl 1 rfl) ?_
          refine lv_if_ne (tgt := 200) hx hb d_T_lift_154 (by decide) (fun q => absurd rfl q) (fun _ => ?_)
          refine lv_iload_n hx hb d_T_lift_157 rfl (lv_at hl 3 rfl) ?_
          refine lv_aload_n hx hb d_T_lift_158 rfl (lv_at hl 2 rfl) ?_
          refine xg_T hx hb hts hown hK hP 0 rfl 0 (by decide) k_27 rfl d_T_lift_159 ?_
          refine lv_iload hx hb d_T_lift_162 (lv_at hl 0 rfl) ?_
          refine xk_ald hx hb hK hP 1 rfl (gr1 t) (by omega) (by decide) d_T_lift_164 ?_
          refine lv_icmp_le (tgt := 200) hx hb d_T_lift_165 (by decide) (fun cr => ?_) (fun cr => ?_)
          · refine lv_iload hx hb d_T_lift_200 (lv_at hl 0 rfl) ?_
            refine xn_ifne hx hb (gr1 t) (by omega) (tgt := 208) d_T_lift_202 (by decide) (fun cm => ?_) (fun cm => ?_)
            · refine lv_iload hx hb d_T_lift_208 (lv_at hl 1 rfl) ?_
              refine lv_if_eq (tgt := 227) hx hb d_T_lift_210 (by decide) (fun _ => ?_) (fun q => absurd rfl q)
              refine lv_aload_n hx hb d_T_lift_227 rfl (lv_at hl 2 rfl) ?_
              refine xg_T hx hb hts hown hK hP 0 rfl 2 (by decide) k_30 rfl d_T_lift_228 ?_
              refine lv_iload_n hx hb d_T_lift_231 rfl (lv_at hl 5 rfl) ?_
              refine lv_iload_n hx hb d_T_lift_232 rfl (lv_at hl 4 rfl) ?_
              refine xn_ast hx hb hK hP hD hS 3 rfl low t (by omega) (by decide) d_T_lift_233 (fun H locs hP hD hS => ?_)
              have hP : va_P D classes (ce_T cA h qk qs qg key sm1 (va_up gr1 low t) root) H := hP
              have hD : va_D A (ce_T cA h qk qs qg key sm1 (va_up gr1 low t) root) := hD
              refine lv_iload_n hx hb d_T_lift_234 rfl (lv_at hl 4 rfl) ?_
              refine lv_istore_n (lv' := [(3, .int (nI t)), (7, .int (nI (gr1 t))), (6, .int 0), (0, .ref h), (1, .int k), (2, .int (nI t)), (4, .int (nI high))]) hx hb d_T_lift_235 rfl hl (by decide) rfl (fun ls hl => ?_)
              obtain ⟨n2, hn2, hI2⟩ := tr_I_linkL hT.2.1 hI cm hkt
              exact hB sm1 (va_up gr1 low t) (gr1 t) t high n2 _ _ _ hP hD hS hI2 (by omega) hr0 t 0 (lv_sub hl [3, 4, 5, 0, 6, 2, 1] rfl)
            · exact absurd cm cn
          · have hI := tr_I_rotL hI cn
            have ha := tr_I_at hI
            have hu : gr1 t < 4097 := hbd _ ha.1
            have hs2 := hb0 ha.2.2.1
            have hg2 := hb0 ha.2.2.2.1
            have hku : key (gr1 t) < k := Int32.not_le.mp cr
            refine lv_aload_n hx hb d_T_lift_168 rfl (lv_at hl 2 rfl) ?_
            refine xg_T hx hb hts hown hK hP 0 rfl 2 (by decide) k_30 rfl d_T_lift_169 ?_
            refine lv_iload_n hx hb d_T_lift_172 rfl (lv_at hl 4 rfl) ?_
            refine lv_aload_n hx hb d_T_lift_173 rfl (lv_at hl 2 rfl) ?_
            refine xg_T hx hb hts hown hK hP 0 rfl 1 (by decide) k_29 rfl d_T_lift_174 ?_
            refine lv_iload hx hb d_T_lift_177 (lv_at hl 0 rfl) ?_
            refine xn_ald hx hb hK hP 2 rfl (gr1 t) (by omega) (by decide) d_T_lift_179 ?_
            refine xn_ast hx hb hK hP hD hS 3 rfl t (sm1 (gr1 t)) (by omega) (by decide) d_T_lift_180 (fun H locs hP hD hS => ?_)
            have hP : va_P D classes (ce_T cA h qk qs qg key sm1 (va_up gr1 t (sm1 (gr1 t))) root) H := hP
            have hD : va_D A (ce_T cA h qk qs qg key sm1 (va_up gr1 t (sm1 (gr1 t))) root) := hD
            refine lv_aload_n hx hb d_T_lift_181 rfl (lv_at hl 2 rfl) ?_
            refine xg_T hx hb hts hown hK hP 0 rfl 1 (by decide) k_29 rfl d_T_lift_182 ?_
            refine lv_iload hx hb d_T_lift_185 (lv_at hl 0 rfl) ?_
            refine lv_iload_n hx hb d_T_lift_187 rfl (lv_at hl 4 rfl) ?_
            refine xn_ast hx hb hK hP hD hS 2 rfl (gr1 t) t (by omega) (by decide) d_T_lift_188 (fun H locs hP hD hS => ?_)
            have hP : va_P D classes (ce_T cA h qk qs qg key (va_up sm1 (gr1 t) t) (va_up gr1 t (sm1 (gr1 t))) root) H := hP
            have hD : va_D A (ce_T cA h qk qs qg key (va_up sm1 (gr1 t) t) (va_up gr1 t (sm1 (gr1 t))) root) := hD
            refine lv_iload hx hb d_T_lift_189 (lv_at hl 0 rfl) ?_
            refine lv_istore_n (lv' := [(2, .int (nI (gr1 t))), (7, .int (nI (gr1 t))), (6, .int 0), (0, .ref h), (1, .int k), (3, .int (nI low)), (4, .int (nI high))]) hx hb d_T_lift_191 rfl hl (by decide) rfl (fun ls hl => ?_)
            refine lv_aload_n hx hb d_T_lift_192 rfl (lv_at hl 3 rfl) ?_
            refine xg_T hx hb hts hown hK hP 0 rfl 2 (by decide) k_30 rfl d_T_lift_193 ?_
            refine lv_iload_n hx hb d_T_lift_196 rfl (lv_at hl 0 rfl) ?_
            refine xn_ald hx hb hK hP 3 rfl (gr1 t) (by omega) (by decide) d_T_lift_197 ?_
            refine lv_istore (lv' := [(7, .int (nI ((va_up gr1 t (sm1 (gr1 t))) (gr1 t)))), (2, .int (nI (gr1 t))), (6, .int 0), (0, .ref h), (1, .int k), (3, .int (nI low)), (4, .int (nI high))]) hx hb d_T_lift_198 hl (by decide) rfl (fun ls hl => ?_)
            refine lv_iload hx hb d_T_lift_200 (lv_at hl 0 rfl) ?_
            refine xn_ifne hx hb ((va_up gr1 t (sm1 (gr1 t))) (gr1 t)) (by omega) (tgt := 208) d_T_lift_202 (by decide) (fun cm => ?_) (fun cm => ?_)
            · refine lv_iload hx hb d_T_lift_208 (lv_at hl 2 rfl) ?_
              refine lv_if_eq (tgt := 227) hx hb d_T_lift_210 (by decide) (fun _ => ?_) (fun q => absurd rfl q)
              refine lv_aload_n hx hb d_T_lift_227 rfl (lv_at hl 3 rfl) ?_
              refine xg_T hx hb hts hown hK hP 0 rfl 2 (by decide) k_30 rfl d_T_lift_228 ?_
              refine lv_iload_n hx hb d_T_lift_231 rfl (lv_at hl 5 rfl) ?_
              refine lv_iload_n hx hb d_T_lift_232 rfl (lv_at hl 1 rfl) ?_
              refine xn_ast hx hb hK hP hD hS 3 rfl low (gr1 t) (by omega) (by decide) d_T_lift_233 (fun H locs hP hD hS => ?_)
              have hP : va_P D classes (ce_T cA h qk qs qg key (va_up sm1 (gr1 t) t) (va_up (va_up gr1 t (sm1 (gr1 t))) low (gr1 t)) root) H := hP
              have hD : va_D A (ce_T cA h qk qs qg key (va_up sm1 (gr1 t) t) (va_up (va_up gr1 t (sm1 (gr1 t))) low (gr1 t)) root) := hD
              refine lv_iload_n hx hb d_T_lift_234 rfl (lv_at hl 1 rfl) ?_
              refine lv_istore_n (lv' := [(3, .int (nI (gr1 t))), (7, .int (nI ((va_up gr1 t (sm1 (gr1 t))) (gr1 t)))), (2, .int (nI (gr1 t))), (6, .int 0), (0, .ref h), (1, .int k), (4, .int (nI high))]) hx hb d_T_lift_235 rfl hl (by decide) rfl (fun ls hl => ?_)
              obtain ⟨n2, hn2, hI2⟩ := tr_I_linkL hT.2.1 hI cm hku
              exact hB (va_up sm1 (gr1 t) t) (va_up (va_up gr1 t (sm1 (gr1 t))) low (gr1 t)) ((va_up gr1 t (sm1 (gr1 t))) (gr1 t)) (gr1 t) high n2 _ _ _ hP hD hS hI2 (by omega) hr0 (gr1 t) 0 (lv_sub hl [4, 5, 2, 0, 6, 3, 1] rfl)
            · refine lv_goto (tgt := 259) hx hb d_T_lift_205 (by decide) ?_
              exact hE (va_up sm1 (gr1 t) t) (va_up gr1 t (sm1 (gr1 t))) (gr1 t) low high nn _ _ _ hP hD hS hI hr0 (Or.inr (Or.inr ⟨hku, cm⟩)) (lv_sub hl [3, 4, 1, 5, 6] rfl)
        · refine lv_goto (tgt := 259) hx hb d_T_lift_98 (by decide) ?_
          exact hE sm1 gr1 t low high nn _ _ _ hP hD hS hI hr0 (Or.inr (Or.inr ⟨hkt, cn⟩)) (lv_sub hl [2, 3, 4, 5, 6] rfl)
      · refine lv_iconst (v := 1) hx hb d_T_lift_64 (by decide) ?_
        refine lv_goto (tgt := 69) hx hb d_T_lift_65 (by decide) ?_
        refine lv_istore (lv' := [(6, .int 1), (0, .ref h), (1, .int k), (2, .int (nI t)), (3, .int (nI low)), (4, .int (nI high))]) hx hb d_T_lift_69 hl (by decide) rfl (fun ls hl => ?_)
        refine lv_iload hx hb d_T_lift_71 (lv_at hl 0 rfl) ?_
        refine lv_if_eq (tgt := 85) hx hb d_T_lift_73 (by decide) (fun q => absurd q (by decide)) (fun _ => ?_)
        refine lv_aload_n hx hb d_T_lift_76 rfl (lv_at hl 1 rfl) ?_
        refine xg_T hx hb hts hown hK hP 0 rfl 1 (by decide) k_29 rfl d_T_lift_77 ?_
        refine lv_iload_n hx hb d_T_lift_80 rfl (lv_at hl 3 rfl) ?_
        refine xn_ald hx hb hK hP 2 rfl t (by omega) (by decide) d_T_lift_81 ?_
        refine lv_goto (tgt := 91) hx hb d_T_lift_82 (by decide) ?_
        refine lv_istore (lv' := [(7, .int (nI (sm1 t))), (6, .int 1), (0, .ref h), (1, .int k), (2, .int (nI t)), (3, .int (nI low)), (4, .int (nI high))]) hx hb d_T_lift_91 hl (by decide) rfl (fun ls hl => ?_)
        refine lv_iload hx hb d_T_lift_93 (lv_at hl 0 rfl) ?_
        refine xn_ifne hx hb (sm1 t) (by omega) (tgt := 101) d_T_lift_95 (by decide) (fun cn => ?_) (fun cn => ?_)
        · refine lv_iload hx hb d_T_lift_101 (lv_at hl 1 rfl) ?_
          refine lv_if_eq (tgt := 152) hx hb d_T_lift_103 (by decide) (fun q => absurd q (by decide)) (fun _ => ?_)
          refine lv_iload_n hx hb d_T_lift_106 rfl (lv_at hl 3 rfl) ?_
          refine lv_aload_n hx hb d_T_lift_107 rfl (lv_at hl 2 rfl) ?_
          refine xg_T hx hb hts hown hK hP 0 rfl 0 (by decide) k_27 rfl d_T_lift_108 ?_
          refine lv_iload hx hb d_T_lift_111 (lv_at hl 0 rfl) ?_
          refine xk_ald hx hb hK hP 1 rfl (sm1 t) (by omega) (by decide) d_T_lift_113 ?_
          refine lv_icmp_ge (tgt := 152) hx hb d_T_lift_114 (by decide) (fun cr => ?_) (fun cr => ?_)
          · refine lv_iload hx hb d_T_lift_152 (lv_at hl 1 rfl) ?_
            refine lv_if_ne (tgt := 200) hx hb d_T_lift_154 (by decide) (fun _ => ?_) (fun q => absurd q (by decide))
            refine lv_iload hx hb d_T_lift_200 (lv_at hl 0 rfl) ?_
            refine xn_ifne hx hb (sm1 t) (by omega) (tgt := 208) d_T_lift_202 (by decide) (fun cm => ?_) (fun cm => ?_)
            · refine lv_iload hx hb d_T_lift_208 (lv_at hl 1 rfl) ?_
              refine lv_if_eq (tgt := 227) hx hb d_T_lift_210 (by decide) (fun q => absurd q (by decide)) (fun _ => ?_)
              refine lv_aload_n hx hb d_T_lift_213 rfl (lv_at hl 2 rfl) ?_
              refine xg_T hx hb hts hown hK hP 0 rfl 1 (by decide) k_29 rfl d_T_lift_214 ?_
              refine lv_iload hx hb d_T_lift_217 (lv_at hl 6 rfl) ?_
              refine lv_iload_n hx hb d_T_lift_219 rfl (lv_at hl 4 rfl) ?_
              refine xn_ast hx hb hK hP hD hS 2 rfl high t (by omega) (by decide) d_T_lift_220 (fun H locs hP hD hS => ?_)
              have hP : va_P D classes (ce_T cA h qk qs qg key (va_up sm1 high t) gr1 root) H := hP
              have hD : va_D A (ce_T cA h qk qs qg key (va_up sm1 high t) gr1 root) := hD
              refine lv_iload_n hx hb d_T_lift_221 rfl (lv_at hl 4 rfl) ?_
              refine lv_istore (lv' := [(4, .int (nI t)), (7, .int (nI (sm1 t))), (6, .int 1), (0, .ref h), (1, .int k), (2, .int (nI t)), (3, .int (nI low))]) hx hb d_T_lift_222 hl (by decide) rfl (fun ls hl => ?_)
              refine lv_goto (tgt := 236) hx hb d_T_lift_224 (by decide) ?_
              obtain ⟨n2, hn2, hI2⟩ := tr_I_linkR hT.2.1 hI cm (Int32.not_le.mp cd)
              exact hB (va_up sm1 high t) gr1 (sm1 t) low t n2 _ _ _ hP hD hS hI2 (by omega) hr0 t 1 (lv_sub hl [3, 4, 5, 6, 0, 2, 1] rfl)
            · exact absurd cm cn
          · have hI := tr_I_rotR hI cn
            have ha := tr_I_at hI
            have hu : sm1 t < 4097 := hbd _ ha.1
            have hs2 := hb0 ha.2.2.1
            have hg2 := hb0 ha.2.2.2.1
            have hku : k < key (sm1 t) := Int32.not_le.mp cr
            refine lv_aload_n hx hb d_T_lift_117 rfl (lv_at hl 2 rfl) ?_
            refine xg_T hx hb hts hown hK hP 0 rfl 1 (by decide) k_29 rfl d_T_lift_118 ?_
            refine lv_iload_n hx hb d_T_lift_121 rfl (lv_at hl 4 rfl) ?_
            refine lv_aload_n hx hb d_T_lift_122 rfl (lv_at hl 2 rfl) ?_
            refine xg_T hx hb hts hown hK hP 0 rfl 2 (by decide) k_30 rfl d_T_lift_123 ?_
            refine lv_iload hx hb d_T_lift_126 (lv_at hl 0 rfl) ?_
            refine xn_ald hx hb hK hP 3 rfl (sm1 t) (by omega) (by decide) d_T_lift_128 ?_
            refine xn_ast hx hb hK hP hD hS 2 rfl t (gr1 (sm1 t)) (by omega) (by decide) d_T_lift_129 (fun H locs hP hD hS => ?_)
            have hP : va_P D classes (ce_T cA h qk qs qg key (va_up sm1 t (gr1 (sm1 t))) gr1 root) H := hP
            have hD : va_D A (ce_T cA h qk qs qg key (va_up sm1 t (gr1 (sm1 t))) gr1 root) := hD
            refine lv_aload_n hx hb d_T_lift_130 rfl (lv_at hl 2 rfl) ?_
            refine xg_T hx hb hts hown hK hP 0 rfl 2 (by decide) k_30 rfl d_T_lift_131 ?_
            refine lv_iload hx hb d_T_lift_134 (lv_at hl 0 rfl) ?_
            refine lv_iload_n hx hb d_T_lift_136 rfl (lv_at hl 4 rfl) ?_
            refine xn_ast hx hb hK hP hD hS 3 rfl (sm1 t) t (by omega) (by decide) d_T_lift_137 (fun H locs hP hD hS => ?_)
            have hP : va_P D classes (ce_T cA h qk qs qg key (va_up sm1 t (gr1 (sm1 t))) (va_up gr1 (sm1 t) t) root) H := hP
            have hD : va_D A (ce_T cA h qk qs qg key (va_up sm1 t (gr1 (sm1 t))) (va_up gr1 (sm1 t) t) root) := hD
            refine lv_iload hx hb d_T_lift_138 (lv_at hl 0 rfl) ?_
            refine lv_istore_n (lv' := [(2, .int (nI (sm1 t))), (7, .int (nI (sm1 t))), (6, .int 1), (0, .ref h), (1, .int k), (3, .int (nI low)), (4, .int (nI high))]) hx hb d_T_lift_140 rfl hl (by decide) rfl (fun ls hl => ?_)
            refine lv_aload_n hx hb d_T_lift_141 rfl (lv_at hl 3 rfl) ?_
            refine xg_T hx hb hts hown hK hP 0 rfl 1 (by decide) k_29 rfl d_T_lift_142 ?_
            refine lv_iload_n hx hb d_T_lift_145 rfl (lv_at hl 0 rfl) ?_
            refine xn_ald hx hb hK hP 2 rfl (sm1 t) (by omega) (by decide) d_T_lift_146 ?_
            refine lv_istore (lv' := [(7, .int (nI ((va_up sm1 t (gr1 (sm1 t))) (sm1 t)))), (2, .int (nI (sm1 t))), (6, .int 1), (0, .ref h), (1, .int k), (3, .int (nI low)), (4, .int (nI high))]) hx hb d_T_lift_147 hl (by decide) rfl (fun ls hl => ?_)
            refine lv_goto (tgt := 200) hx hb d_T_lift_149 (by decide) ?_
            refine lv_iload hx hb d_T_lift_200 (lv_at hl 0 rfl) ?_
            refine xn_ifne hx hb ((va_up sm1 t (gr1 (sm1 t))) (sm1 t)) (by omega) (tgt := 208) d_T_lift_202 (by decide) (fun cm => ?_) (fun cm => ?_)
            · refine lv_iload hx hb d_T_lift_208 (lv_at hl 2 rfl) ?_
              refine lv_if_eq (tgt := 227) hx hb d_T_lift_210 (by decide) (fun q => absurd q (by decide)) (fun _ => ?_)
              refine lv_aload_n hx hb d_T_lift_213 rfl (lv_at hl 3 rfl) ?_
              refine xg_T hx hb hts hown hK hP 0 rfl 1 (by decide) k_29 rfl d_T_lift_214 ?_
              refine lv_iload hx hb d_T_lift_217 (lv_at hl 6 rfl) ?_
              refine lv_iload_n hx hb d_T_lift_219 rfl (lv_at hl 1 rfl) ?_
              refine xn_ast hx hb hK hP hD hS 2 rfl high (sm1 t) (by omega) (by decide) d_T_lift_220 (fun H locs hP hD hS => ?_)
              have hP : va_P D classes (ce_T cA h qk qs qg key (va_up (va_up sm1 t (gr1 (sm1 t))) high (sm1 t)) (va_up gr1 (sm1 t) t) root) H := hP
              have hD : va_D A (ce_T cA h qk qs qg key (va_up (va_up sm1 t (gr1 (sm1 t))) high (sm1 t)) (va_up gr1 (sm1 t) t) root) := hD
              refine lv_iload_n hx hb d_T_lift_221 rfl (lv_at hl 1 rfl) ?_
              refine lv_istore (lv' := [(4, .int (nI (sm1 t))), (7, .int (nI ((va_up sm1 t (gr1 (sm1 t))) (sm1 t)))), (2, .int (nI (sm1 t))), (6, .int 1), (0, .ref h), (1, .int k), (3, .int (nI low))]) hx hb d_T_lift_222 hl (by decide) rfl (fun ls hl => ?_)
              refine lv_goto (tgt := 236) hx hb d_T_lift_224 (by decide) ?_
              obtain ⟨n2, hn2, hI2⟩ := tr_I_linkR hT.2.1 hI cm hku
              exact hB (va_up (va_up sm1 t (gr1 (sm1 t))) high (sm1 t)) (va_up gr1 (sm1 t) t) ((va_up sm1 t (gr1 (sm1 t))) (sm1 t)) low (sm1 t) n2 _ _ _ hP hD hS hI2 (by omega) hr0 (sm1 t) 1 (lv_sub hl [4, 5, 2, 6, 0, 3, 1] rfl)
            · refine lv_goto (tgt := 259) hx hb d_T_lift_205 (by decide) ?_
              exact hE (va_up sm1 t (gr1 (sm1 t))) (va_up gr1 (sm1 t) t) (sm1 t) low high nn _ _ _ hP hD hS hI hr0 (Or.inr (Or.inl ⟨hku, cm⟩)) (lv_sub hl [3, 4, 1, 5, 6] rfl)
        · refine lv_goto (tgt := 259) hx hb d_T_lift_98 (by decide) ?_
          exact hE sm1 gr1 t low high nn _ _ _ hP hD hS hI hr0 (Or.inr (Or.inl ⟨Int32.not_le.mp cd, cn⟩)) (lv_sub hl [2, 3, 4, 5, 6] rfl)
  refine lv_aload_n hx hb d_T_lift_0 rfl (lv_at hl 0 rfl) ?_
  refine xg_T hx hb hts hown hK hP 0 rfl 3 (by decide) k_31 rfl d_T_lift_1 ?_
  refine xn_ifne hx hb root (by omega) (tgt := 8) d_T_lift_4 (by decide) (fun c0 => ?_) (fun c0 => ?_)
  · refine lv_aload_n hx hb d_T_lift_8 rfl (lv_at hl 0 rfl) ?_
    refine xg_T hx hb hts hown hK hP 0 rfl 3 (by decide) k_31 rfl d_T_lift_9 ?_
    refine lv_istore_n (lv' := [(2, .int (nI root)), (0, .ref h), (1, .int k)]) hx hb d_T_lift_12 rfl hl (by decide) rfl (fun ls hl => ?_)
    refine lv_iconst (v := 0) hx hb d_T_lift_13 (by decide) ?_
    refine lv_istore_n (lv' := [(3, .int 0), (2, .int (nI root)), (0, .ref h), (1, .int k)]) hx hb d_T_lift_14 rfl hl (by decide) rfl (fun ls hl => ?_)
    refine lv_iconst (v := 0) hx hb d_T_lift_15 (by decide) ?_
    refine lv_istore (lv' := [(4, .int 0), (3, .int 0), (2, .int (nI root)), (0, .ref h), (1, .int k)]) hx hb d_T_lift_16 hl (by decide) rfl (fun ls hl => ?_)
    refine lv_aload_n hx hb d_T_lift_18 rfl (lv_at hl 3 rfl) ?_
    refine xg_T hx hb hts hown hK hP 0 rfl 1 (by decide) k_29 rfl d_T_lift_19 ?_
    refine lv_iconst (v := 0) hx hb d_T_lift_22 (by decide) ?_
    refine lv_iconst (v := 0) hx hb d_T_lift_23 (by decide) ?_
    refine xn_ast hx hb hK hP hD hS 2 rfl 0 0 (by omega) (by decide) d_T_lift_24 (fun H locs hP hD hS => ?_)
    have hP : va_P D classes (ce_T cA h qk qs qg key (va_up sm 0 0) gr root) H := hP
    have hD : va_D A (ce_T cA h qk qs qg key (va_up sm 0 0) gr root) := hD
    refine lv_aload_n hx hb d_T_lift_25 rfl (lv_at hl 3 rfl) ?_
    refine xg_T hx hb hts hown hK hP 0 rfl 2 (by decide) k_30 rfl d_T_lift_26 ?_
    refine lv_iconst (v := 0) hx hb d_T_lift_29 (by decide) ?_
    refine lv_iconst (v := 0) hx hb d_T_lift_30 (by decide) ?_
    refine xn_ast hx hb hK hP hD hS 3 rfl 0 0 (by omega) (by decide) d_T_lift_31 (fun H locs hP hD hS => ?_)
    have hP : va_P D classes (ce_T cA h qk qs qg key (va_up sm 0 0) (va_up gr 0 0) root) H := hP
    have hD : va_D A (ce_T cA h qk qs qg key (va_up sm 0 0) (va_up gr 0 0) root) := hD
    refine lv_aload_n hx hb d_T_lift_32 rfl (lv_at hl 3 rfl) ?_
    refine xg_T hx hb hts hown hK hP 0 rfl 0 (by decide) k_27 rfl d_T_lift_33 ?_
    refine lv_iload_n hx hb d_T_lift_36 rfl (lv_at hl 2 rfl) ?_
    refine xk_ald hx hb hK hP 1 rfl root (by omega) (by decide) d_T_lift_37 ?_
    refine lv_iload_n hx hb d_T_lift_38 rfl (lv_at hl 4 rfl) ?_
    have hI := tr_I_start (key := key) (k := k) hT.1 c0 (tr_S_nd hT.2.1) (tr_K_z hT)
    refine lv_icmp_eq (tgt := 46) hx hb d_T_lift_39 (by decide) (fun ck => ?_) (fun ck => ?_)
    · refine lv_iconst (v := 0) hx hb d_T_lift_46 (by decide) ?_
      refine lv_istore (lv' := [(5, .int 0), (4, .int 0), (3, .int 0), (2, .int (nI root)), (0, .ref h), (1, .int k)]) hx hb d_T_lift_47 hl (by decide) rfl (fun ls hl => ?_)
      refine lv_iload hx hb d_T_lift_49 (lv_at hl 0 rfl) ?_
      refine lv_if_eq (tgt := 259) hx hb d_T_lift_51 (by decide) (fun _ => ?_) (fun q => absurd rfl q)
      exact hE _ _ root 0 0 _ _ _ _ hP hD hS hI c0 (Or.inl ck) (lv_sub hl [4, 5, 3, 2, 1] rfl)
    · refine lv_iconst (v := 1) hx hb d_T_lift_42 (by decide) ?_
      refine lv_goto (tgt := 47) hx hb d_T_lift_43 (by decide) ?_
      refine lv_istore (lv' := [(5, .int 1), (4, .int 0), (3, .int 0), (2, .int (nI root)), (0, .ref h), (1, .int k)]) hx hb d_T_lift_47 hl (by decide) rfl (fun ls hl => ?_)
      refine lv_iload hx hb d_T_lift_49 (lv_at hl 0 rfl) ?_
      refine lv_if_eq (tgt := 259) hx hb d_T_lift_51 (by decide) (fun q => absurd q (by decide)) (fun _ => ?_)
      exact hL _ _ _ root 0 0 _ _ _ _ hP hD hS hI (Nat.le_refl _) c0 ck (lv_sub hl [4, 5, 3, 2, 1] rfl)
  · subst c0
    exact hret 7 _ _ _ (sm, gr, 0) d_T_lift_7 (Or.inl ⟨rfl, rfl, rfl, rfl⟩) hP hD hS
set_option maxHeartbeats 4000000 in
set_option maxRecDepth 100000 in
/-- find: the place of a key, or none -/
theorem c_T_find (l : Launch) (D : va_G) (cA : ClassId) (h qk qs qg hz : Nat) (key : Nat → Int32) (sm gr : Nat → Nat) (root : Nat) (k : Int32) (lst : List Nat) (hT : tr_K key sm gr root lst) : xm_I l D cA y_T_find b_T_find 2 ({ frames := 1, cells := 0, slots := 0, locals := 29 }) [.ref h, .int k] (ce_T cA h qk qs qg key sm gr root) hz (fun (r : Int32) (u : (Nat → Nat) × (Nat → Nat) × Nat) => ∃ q : Nat, r = nI q ∧ tr_K key u.1 u.2.1 u.2.2 lst ∧ ((q = 0 ∧ ∀ i ∈ lst, key i ≠ k) ∨ (q ≠ 0 ∧ q = u.2.2 ∧ q ∈ lst ∧ key q = k))) (fun u : (Nat → Nat) × (Nat → Nat) × Nat => ce_T cA h qk qs qg key u.1 u.2.1 u.2.2) := by
  refine xm_I_of (by decide) (Nat.le_of_ble_eq_true rfl) ?_
  intro p e s m below meth c A Q ls hx hb hml hown hts hl hP hK hD hS hA hret
  have hown : s.vm.findClass "RecentMap$Tree" = some m.cls := hown
  have hl : lv_has ls 2 [(0, .ref h), (1, .int k)] := hl
  refine lv_aload_n hx hb d_T_find_0 rfl (lv_at hl 0 rfl) ?_
  refine lv_iload_n hx hb d_T_find_1 rfl (lv_at hl 1 rfl) ?_
  refine xc_V (n := 1) (As := [.int k]) (rest := []) (wr := []) (wc := ce_T cA h qk qs qg key sm gr root) hx hb hml hown hts (c_T_lift l D cA h qk qs qg _ key sm gr root k lst hT) (xc_G (fun _ h => .tail _ h) (.tail _ k_62) k_63 k_0 k_14 k_64) (by decide +kernel) ⟨rfl, rfl⟩ ⟨Nat.le_of_ble_eq_true rfl, Nat.le_of_ble_eq_true rfl⟩ hK hP hD hS hA [0, 1, 2, 3] [] rfl rfl rfl rfl rfl (by decide) rfl rfl rfl rfl hl.1 rfl (Nat.le_of_ble_eq_true rfl) d_T_find_2 ⟨Nat.zero_le _, Nat.zero_le _⟩ (fun u H locs hw hP hD hS => ?_)
  obtain ⟨sm1, gr1, r1⟩ := u
  dsimp only at hw
  have hT1 : tr_K key sm1 gr1 r1 lst := by
    rcases hw with ⟨q0, q1, q2, q3⟩ | ⟨q0, q1⟩
    · rw [q1, q2, q3]; rw [q0] at hT; exact hT
    · exact (tr_P_K hT q1).1
  have hr1 := tr_K_b hT1
  have hP : va_P D classes (ce_T cA h qk qs qg key sm1 gr1 r1) H := hP
  have hD : va_D A (ce_T cA h qk qs qg key sm1 gr1 r1) := hD
  refine lv_aload_n hx hb d_T_find_5 rfl (lv_at hl 0 rfl) ?_
  refine xg_T hx hb hts hown hK hP 0 rfl 3 (by decide) k_31 rfl d_T_find_6 ?_
  refine xn_ifeq hx hb r1 (by omega) (tgt := 32) d_T_find_9 (by decide) (fun c0 => ?_) (fun c0 => ?_)
  · refine lv_iconst (v := 0) hx hb d_T_find_32 (by decide) ?_
    exact hret 33 _ _ _ 0 (sm1, gr1, r1) d_T_find_33 ⟨0, rfl, hT1, Or.inl ⟨rfl, by
          have e := tr_nil hT1.1 c0
          intro i hi
          rw [e] at hi
          simp at hi⟩⟩ hP hD hS
  · refine lv_aload_n hx hb d_T_find_12 rfl (lv_at hl 0 rfl) ?_
    refine xg_T hx hb hts hown hK hP 0 rfl 0 (by decide) k_27 rfl d_T_find_13 ?_
    refine lv_aload_n hx hb d_T_find_16 rfl (lv_at hl 0 rfl) ?_
    refine xg_T hx hb hts hown hK hP 0 rfl 3 (by decide) k_31 rfl d_T_find_17 ?_
    refine xk_ald hx hb hK hP 1 rfl r1 (by omega) (by decide) d_T_find_20 ?_
    refine lv_iload_n hx hb d_T_find_21 rfl (lv_at hl 1 rfl) ?_
    refine lv_icmp_ne (tgt := 32) hx hb d_T_find_22 (by decide) (fun ck => ?_) (fun ck => ?_)
    · refine lv_iconst (v := 0) hx hb d_T_find_32 (by decide) ?_
      exact hret 33 _ _ _ 0 (sm1, gr1, r1) d_T_find_33 ⟨0, rfl, hT1, Or.inl ⟨rfl, by
              rcases hw with ⟨q0, q1, q2, q3⟩ | ⟨q0, q1⟩
              · exact absurd q3 c0
              · exact tr_P_not hT.2.1 q1 ck⟩⟩ hP hD hS
    · refine lv_aload_n hx hb d_T_find_25 rfl (lv_at hl 0 rfl) ?_
      refine xg_T hx hb hts hown hK hP 0 rfl 3 (by decide) k_31 rfl d_T_find_26 ?_
      refine lv_goto (tgt := 33) hx hb d_T_find_29 (by decide) ?_
      exact hret 33 _ _ _ (nI r1) (sm1, gr1, r1) d_T_find_33 ⟨r1, rfl, hT1, Or.inr ⟨c0, rfl, (by
              rcases tr_mem hT1.1 with q | q
              · exact absurd q c0
              · exact q), ck⟩⟩ hP hD hS
set_option maxHeartbeats 4000000 in
set_option maxRecDepth 100000 in
/-- add: a key that is not there takes a place -/
theorem c_T_add (l : Launch) (D : va_G) (cA : ClassId) (h qk qs qg hz : Nat) (key : Nat → Int32) (sm gr : Nat → Nat) (root : Nat) (pl : Nat) (k : Int32) (lst : List Nat) (hT : tr_K key sm gr root lst) (hp0 : 0 < pl) (hpb : pl < 4097) (hp : pl ∉ lst) (hk : ∀ i ∈ lst, key i ≠ k) : xm_V l D cA y_T_add b_T_add 3 ({ frames := 1, cells := 0, slots := 0, locals := 29 }) [.ref h, .int (nI pl), .int k] (ce_T cA h qk qs qg key sm gr root) hz (fun u : (Nat → Nat) × (Nat → Nat) => ∃ l2, tr_K (va_up key pl k) u.1 u.2 pl l2 ∧ ∀ i, i ∈ l2 ↔ i = pl ∨ i ∈ lst) (fun u : (Nat → Nat) × (Nat → Nat) => ce_T cA h qk qs qg (va_up key pl k) u.1 u.2 pl) := by
  refine xm_V_of (by decide) (Nat.le_of_ble_eq_true rfl) ?_
  intro p e s m below meth c A Q ls hx hb hml hown hts hl hP hK hD hS hA hret
  have hown : s.vm.findClass "RecentMap$Tree" = some m.cls := hown
  have hl : lv_has ls 3 [(0, .ref h), (1, .int (nI pl)), (2, .int k)] := hl
  have hroot := tr_K_b hT
  refine lv_aload_n hx hb d_T_add_0 rfl (lv_at hl 0 rfl) ?_
  refine xg_T hx hb hts hown hK hP 0 rfl 0 (by decide) k_27 rfl d_T_add_1 ?_
  refine lv_iload_n hx hb d_T_add_4 rfl (lv_at hl 1 rfl) ?_
  refine lv_iload_n hx hb d_T_add_5 rfl (lv_at hl 2 rfl) ?_
  refine xk_ast hx hb hK hP hD hS 1 rfl pl k (by omega) (by decide) d_T_add_6 (fun H locs hP hD hS => ?_)
  have hP : va_P D classes (ce_T cA h qk qs qg (va_up key pl k) sm gr root) H := hP
  have hD : va_D A (ce_T cA h qk qs qg (va_up key pl k) sm gr root) := hD
  refine lv_aload_n hx hb d_T_add_7 rfl (lv_at hl 0 rfl) ?_
  refine xg_T hx hb hts hown hK hP 0 rfl 1 (by decide) k_29 rfl d_T_add_8 ?_
  refine lv_iload_n hx hb d_T_add_11 rfl (lv_at hl 1 rfl) ?_
  refine lv_iconst (v := 0) hx hb d_T_add_12 (by decide) ?_
  refine xn_ast hx hb hK hP hD hS 2 rfl pl 0 (by omega) (by decide) d_T_add_13 (fun H locs hP hD hS => ?_)
  have hP : va_P D classes (ce_T cA h qk qs qg (va_up key pl k) (va_up sm pl 0) gr root) H := hP
  have hD : va_D A (ce_T cA h qk qs qg (va_up key pl k) (va_up sm pl 0) gr root) := hD
  refine lv_aload_n hx hb d_T_add_14 rfl (lv_at hl 0 rfl) ?_
  refine xg_T hx hb hts hown hK hP 0 rfl 2 (by decide) k_30 rfl d_T_add_15 ?_
  refine lv_iload_n hx hb d_T_add_18 rfl (lv_at hl 1 rfl) ?_
  refine lv_iconst (v := 0) hx hb d_T_add_19 (by decide) ?_
  refine xn_ast hx hb hK hP hD hS 3 rfl pl 0 (by omega) (by decide) d_T_add_20 (fun H locs hP hD hS => ?_)
  have hP : va_P D classes (ce_T cA h qk qs qg (va_up key pl k) (va_up sm pl 0) (va_up gr pl 0) root) H := hP
  have hD : va_D A (ce_T cA h qk qs qg (va_up key pl k) (va_up sm pl 0) (va_up gr pl 0) root) := hD
  refine lv_aload_n hx hb d_T_add_21 rfl (lv_at hl 0 rfl) ?_
  refine xg_T hx hb hts hown hK hP 0 rfl 3 (by decide) k_31 rfl d_T_add_22 ?_
  refine xn_ifeq hx hb root (by omega) (tgt := 119) d_T_add_25 (by decide) (fun c0 => ?_) (fun c0 => ?_)
  · refine lv_aload_n hx hb d_T_add_119 rfl (lv_at hl 0 rfl) ?_
    refine lv_iload_n hx hb d_T_add_120 rfl (lv_at hl 1 rfl) ?_
    refine xp_T hx hb hts hown hK hP hD hS 0 rfl 3 (by decide) k_31 (.int (nI pl)) rfl rfl rfl (Nat.le_of_ble_eq_true rfl) d_T_add_121 (fun H locs hP hD hS => ?_)
    have hP : va_P D classes (ce_T cA h qk qs qg (va_up key pl k) (va_up sm pl 0) (va_up gr pl 0) pl) H := hP
    have hD : va_D A (ce_T cA h qk qs qg (va_up key pl k) (va_up sm pl 0) (va_up gr pl 0) pl) := hD
    exact hret 124 _ _ _ (va_up sm pl 0, va_up gr pl 0) d_T_add_124 ⟨[pl], tr_add0 hT c0 hp0 hpb hp, fun i => by
          rw [tr_nil hT.1 c0]
          simp⟩ hP hD hS
  · have hT0 : tr_K (va_up key pl k) (va_up sm pl 0) (va_up gr pl 0) root lst := tr_K_up hT hp
    refine lv_aload_n hx hb d_T_add_28 rfl (lv_at hl 0 rfl) ?_
    refine lv_iload_n hx hb d_T_add_29 rfl (lv_at hl 2 rfl) ?_
    refine xc_V (n := 1) (As := [.int k]) (rest := []) (wr := []) (wc := ce_T cA h qk qs qg (va_up key pl k) (va_up sm pl 0) (va_up gr pl 0) root) hx hb hml hown hts (c_T_lift l D cA h qk qs qg _ (va_up key pl k) (va_up sm pl 0) (va_up gr pl 0) root k lst hT0) (xc_G (fun _ h => .tail _ h) (.tail _ k_62) k_63 k_0 k_14 k_64) (by decide +kernel) ⟨rfl, rfl⟩ ⟨Nat.le_of_ble_eq_true rfl, Nat.le_of_ble_eq_true rfl⟩ hK hP hD hS hA [0, 1, 2, 3] [] rfl rfl rfl rfl rfl (by decide) rfl rfl rfl rfl hl.1 rfl (Nat.le_of_ble_eq_true rfl) d_T_add_30 ⟨Nat.zero_le _, Nat.zero_le _⟩ (fun u H locs hw hP hD hS => ?_)
    obtain ⟨sm1, gr1, r1⟩ := u
    dsimp only at hw
    have hw : tr_P (va_up key pl k) k (va_up sm pl 0) (va_up gr pl 0) lst sm1 gr1 r1 := by
      rcases hw with ⟨q, -⟩ | ⟨-, q⟩
      · exact absurd q c0
      · exact q
    obtain ⟨hT1, hm1⟩ := tr_P_K hT0 hw
    have hr1 := tr_K_b hT1
    have hrp : r1 ≠ pl := fun q => hp (q ▸ hm1)
    have hkp : va_up key pl k pl = k := va_up_self key pl k
    have hkr : va_up key pl k r1 = key r1 := va_up_ne key k hrp
    have hw2 : tr_P (va_up key pl k) (va_up key pl k pl) (va_up sm pl 0) (va_up gr pl 0) lst sm1 gr1 r1 := by rw [hkp]; exact hw
    have hP : va_P D classes (ce_T cA h qk qs qg (va_up key pl k) sm1 gr1 r1) H := hP
    have hD : va_D A (ce_T cA h qk qs qg (va_up key pl k) sm1 gr1 r1) := hD
    refine lv_iload_n hx hb d_T_add_33 rfl (lv_at hl 2 rfl) ?_
    refine lv_aload_n hx hb d_T_add_34 rfl (lv_at hl 0 rfl) ?_
    refine xg_T hx hb hts hown hK hP 0 rfl 0 (by decide) k_27 rfl d_T_add_35 ?_
    refine lv_aload_n hx hb d_T_add_38 rfl (lv_at hl 0 rfl) ?_
    refine xg_T hx hb hts hown hK hP 0 rfl 3 (by decide) k_31 rfl d_T_add_39 ?_
    refine xk_ald hx hb hK hP 1 rfl r1 (by omega) (by decide) d_T_add_42 ?_
    refine lv_icmp_ge (tgt := 84) hx hb d_T_add_43 (by decide) (fun ck => ?_) (fun ck => ?_)
    · refine lv_aload_n hx hb d_T_add_84 rfl (lv_at hl 0 rfl) ?_
      refine xg_T hx hb hts hown hK hP 0 rfl 2 (by decide) k_30 rfl d_T_add_85 ?_
      refine lv_iload_n hx hb d_T_add_88 rfl (lv_at hl 1 rfl) ?_
      refine lv_aload_n hx hb d_T_add_89 rfl (lv_at hl 0 rfl) ?_
      refine xg_T hx hb hts hown hK hP 0 rfl 2 (by decide) k_30 rfl d_T_add_90 ?_
      refine lv_aload_n hx hb d_T_add_93 rfl (lv_at hl 0 rfl) ?_
      refine xg_T hx hb hts hown hK hP 0 rfl 3 (by decide) k_31 rfl d_T_add_94 ?_
      refine xn_ald hx hb hK hP 3 rfl r1 (by omega) (by decide) d_T_add_97 ?_
      refine xn_ast hx hb hK hP hD hS 3 rfl pl (gr1 r1) (by omega) (by decide) d_T_add_98 (fun H locs hP hD hS => ?_)
      have hP : va_P D classes (ce_T cA h qk qs qg (va_up key pl k) sm1 (va_up gr1 pl (gr1 r1)) r1) H := hP
      have hD : va_D A (ce_T cA h qk qs qg (va_up key pl k) sm1 (va_up gr1 pl (gr1 r1)) r1) := hD
      refine lv_aload_n hx hb d_T_add_99 rfl (lv_at hl 0 rfl) ?_
      refine xg_T hx hb hts hown hK hP 0 rfl 1 (by decide) k_29 rfl d_T_add_100 ?_
      refine lv_iload_n hx hb d_T_add_103 rfl (lv_at hl 1 rfl) ?_
      refine lv_aload_n hx hb d_T_add_104 rfl (lv_at hl 0 rfl) ?_
      refine xg_T hx hb hts hown hK hP 0 rfl 3 (by decide) k_31 rfl d_T_add_105 ?_
      refine xn_ast hx hb hK hP hD hS 2 rfl pl r1 (by omega) (by decide) d_T_add_108 (fun H locs hP hD hS => ?_)
      have hP : va_P D classes (ce_T cA h qk qs qg (va_up key pl k) (va_up sm1 pl r1) (va_up gr1 pl (gr1 r1)) r1) H := hP
      have hD : va_D A (ce_T cA h qk qs qg (va_up key pl k) (va_up sm1 pl r1) (va_up gr1 pl (gr1 r1)) r1) := hD
      refine lv_aload_n hx hb d_T_add_109 rfl (lv_at hl 0 rfl) ?_
      refine xg_T hx hb hts hown hK hP 0 rfl 2 (by decide) k_30 rfl d_T_add_110 ?_
      refine lv_aload_n hx hb d_T_add_113 rfl (lv_at hl 0 rfl) ?_
      refine xg_T hx hb hts hown hK hP 0 rfl 3 (by decide) k_31 rfl d_T_add_114 ?_
      refine lv_iconst (v := 0) hx hb d_T_add_117 (by decide) ?_
      refine xn_ast hx hb hK hP hD hS 3 rfl r1 0 (by omega) (by decide) d_T_add_118 (fun H locs hP hD hS => ?_)
      have hP : va_P D classes (ce_T cA h qk qs qg (va_up key pl k) (va_up sm1 pl r1) (va_up (va_up gr1 pl (gr1 r1)) r1 0) r1) H := hP
      have hD : va_D A (ce_T cA h qk qs qg (va_up key pl k) (va_up sm1 pl r1) (va_up (va_up gr1 pl (gr1 r1)) r1 0) r1) := hD
      refine lv_aload_n hx hb d_T_add_119 rfl (lv_at hl 0 rfl) ?_
      refine lv_iload_n hx hb d_T_add_120 rfl (lv_at hl 1 rfl) ?_
      refine xp_T hx hb hts hown hK hP hD hS 0 rfl 3 (by decide) k_31 (.int (nI pl)) rfl rfl rfl (Nat.le_of_ble_eq_true rfl) d_T_add_121 (fun H locs hP hD hS => ?_)
      have hP : va_P D classes (ce_T cA h qk qs qg (va_up key pl k) (va_up sm1 pl r1) (va_up (va_up gr1 pl (gr1 r1)) r1 0) pl) H := hP
      have hD : va_D A (ce_T cA h qk qs qg (va_up key pl k) (va_up sm1 pl r1) (va_up (va_up gr1 pl (gr1 r1)) r1 0) pl) := hD
      obtain ⟨l2, hK2, hm2⟩ := tr_add2 hT1 hw2 hp0 hpb hp (by rw [hkp]; exact Int32.not_lt.mpr ck) (by rw [hkp, hkr]; exact hk r1 hm1)
      exact hret 124 _ _ _ (va_up sm1 pl r1, va_up (va_up gr1 pl (gr1 r1)) r1 0) d_T_add_124 ⟨l2, hK2, hm2⟩ hP hD hS
    · refine lv_aload_n hx hb d_T_add_46 rfl (lv_at hl 0 rfl) ?_
      refine xg_T hx hb hts hown hK hP 0 rfl 1 (by decide) k_29 rfl d_T_add_47 ?_
      refine lv_iload_n hx hb d_T_add_50 rfl (lv_at hl 1 rfl) ?_
      refine lv_aload_n hx hb d_T_add_51 rfl (lv_at hl 0 rfl) ?_
      refine xg_T hx hb hts hown hK hP 0 rfl 1 (by decide) k_29 rfl d_T_add_52 ?_
      refine lv_aload_n hx hb d_T_add_55 rfl (lv_at hl 0 rfl) ?_
      refine xg_T hx hb hts hown hK hP 0 rfl 3 (by decide) k_31 rfl d_T_add_56 ?_
      refine xn_ald hx hb hK hP 2 rfl r1 (by omega) (by decide) d_T_add_59 ?_
      refine xn_ast hx hb hK hP hD hS 2 rfl pl (sm1 r1) (by omega) (by decide) d_T_add_60 (fun H locs hP hD hS => ?_)
      have hP : va_P D classes (ce_T cA h qk qs qg (va_up key pl k) (va_up sm1 pl (sm1 r1)) gr1 r1) H := hP
      have hD : va_D A (ce_T cA h qk qs qg (va_up key pl k) (va_up sm1 pl (sm1 r1)) gr1 r1) := hD
      refine lv_aload_n hx hb d_T_add_61 rfl (lv_at hl 0 rfl) ?_
      refine xg_T hx hb hts hown hK hP 0 rfl 2 (by decide) k_30 rfl d_T_add_62 ?_
      refine lv_iload_n hx hb d_T_add_65 rfl (lv_at hl 1 rfl) ?_
      refine lv_aload_n hx hb d_T_add_66 rfl (lv_at hl 0 rfl) ?_
      refine xg_T hx hb hts hown hK hP 0 rfl 3 (by decide) k_31 rfl d_T_add_67 ?_
      refine xn_ast hx hb hK hP hD hS 3 rfl pl r1 (by omega) (by decide) d_T_add_70 (fun H locs hP hD hS => ?_)
      have hP : va_P D classes (ce_T cA h qk qs qg (va_up key pl k) (va_up sm1 pl (sm1 r1)) (va_up gr1 pl r1) r1) H := hP
      have hD : va_D A (ce_T cA h qk qs qg (va_up key pl k) (va_up sm1 pl (sm1 r1)) (va_up gr1 pl r1) r1) := hD
      refine lv_aload_n hx hb d_T_add_71 rfl (lv_at hl 0 rfl) ?_
      refine xg_T hx hb hts hown hK hP 0 rfl 1 (by decide) k_29 rfl d_T_add_72 ?_
      refine lv_aload_n hx hb d_T_add_75 rfl (lv_at hl 0 rfl) ?_
      refine xg_T hx hb hts hown hK hP 0 rfl 3 (by decide) k_31 rfl d_T_add_76 ?_
      refine lv_iconst (v := 0) hx hb d_T_add_79 (by decide) ?_
      refine xn_ast hx hb hK hP hD hS 2 rfl r1 0 (by omega) (by decide) d_T_add_80 (fun H locs hP hD hS => ?_)
      have hP : va_P D classes (ce_T cA h qk qs qg (va_up key pl k) (va_up (va_up sm1 pl (sm1 r1)) r1 0) (va_up gr1 pl r1) r1) H := hP
      have hD : va_D A (ce_T cA h qk qs qg (va_up key pl k) (va_up (va_up sm1 pl (sm1 r1)) r1 0) (va_up gr1 pl r1) r1) := hD
      refine lv_goto (tgt := 119) hx hb d_T_add_81 (by decide) ?_
      refine lv_aload_n hx hb d_T_add_119 rfl (lv_at hl 0 rfl) ?_
      refine lv_iload_n hx hb d_T_add_120 rfl (lv_at hl 1 rfl) ?_
      refine xp_T hx hb hts hown hK hP hD hS 0 rfl 3 (by decide) k_31 (.int (nI pl)) rfl rfl rfl (Nat.le_of_ble_eq_true rfl) d_T_add_121 (fun H locs hP hD hS => ?_)
      have hP : va_P D classes (ce_T cA h qk qs qg (va_up key pl k) (va_up (va_up sm1 pl (sm1 r1)) r1 0) (va_up gr1 pl r1) pl) H := hP
      have hD : va_D A (ce_T cA h qk qs qg (va_up key pl k) (va_up (va_up sm1 pl (sm1 r1)) r1 0) (va_up gr1 pl r1) pl) := hD
      obtain ⟨l2, hK2, hm2⟩ := tr_add1 hT1 hw2 hp0 hpb hp (by rw [hkp]; exact Int32.not_le.mp ck)
      exact hret 124 _ _ _ (va_up (va_up sm1 pl (sm1 r1)) r1 0, va_up gr1 pl r1) d_T_add_124 ⟨l2, hK2, hm2⟩ hP hD hS
set_option maxHeartbeats 4000000 in
set_option maxRecDepth 100000 in
/-- cut: the key at the root goes -/
theorem c_T_cut (l : Launch) (D : va_G) (cA : ClassId) (h qk qs qg hz : Nat) (key : Nat → Int32) (sm gr : Nat → Nat) (root : Nat) (lst : List Nat) (hT : tr_K key sm gr root lst) (h0 : root ≠ 0) : xm_V l D cA y_T_cut b_T_cut 3 ({ frames := 1, cells := 0, slots := 0, locals := 29 }) [.ref h] (ce_T cA h qk qs qg key sm gr root) hz (fun u : (Nat → Nat) × (Nat → Nat) × Nat => ∃ l2, tr_K key u.1 u.2.1 u.2.2 l2 ∧ ∀ i, i ∈ l2 ↔ i ∈ lst ∧ i ≠ root) (fun u : (Nat → Nat) × (Nat → Nat) × Nat => ce_T cA h qk qs qg key u.1 u.2.1 u.2.2) := by
  refine xm_V_of (by decide) (Nat.le_of_ble_eq_true rfl) ?_
  intro p e s m below meth c A Q ls hx hb hml hown hts hl hP hK hD hS hA hret
  have hown : s.vm.findClass "RecentMap$Tree" = some m.cls := hown
  have hl : lv_has ls 3 [(0, .ref h)] := hl
  have hroot := tr_K_b hT
  obtain ⟨la, lb, el, hKa, hKb, hA1, hAB, hAD, hga, hgb⟩ := tr_K_root hT h0
  have hsb := tr_K_b hKa
  have hgb2 := tr_K_b hKb
  have hmem : ∀ i, i ∈ la ++ lb ↔ i ∈ lst ∧ i ≠ root := by
    intro i
    rw [el]
    simp
    grind
  refine lv_aload_n hx hb d_T_cut_0 rfl (lv_at hl 0 rfl) ?_
  refine xg_T hx hb hts hown hK hP 0 rfl 3 (by decide) k_31 rfl d_T_cut_1 ?_
  refine lv_istore_n (lv' := [(1, .int (nI root)), (0, .ref h)]) hx hb d_T_cut_4 rfl hl (by decide) rfl (fun ls hl => ?_)
  refine lv_aload_n hx hb d_T_cut_5 rfl (lv_at hl 1 rfl) ?_
  refine xg_T hx hb hts hown hK hP 0 rfl 2 (by decide) k_30 rfl d_T_cut_6 ?_
  refine lv_iload_n hx hb d_T_cut_9 rfl (lv_at hl 0 rfl) ?_
  refine xn_ald hx hb hK hP 3 rfl root (by omega) (by decide) d_T_cut_10 ?_
  refine lv_istore_n (lv' := [(2, .int (nI (gr root))), (1, .int (nI root)), (0, .ref h)]) hx hb d_T_cut_11 rfl hl (by decide) rfl (fun ls hl => ?_)
  refine lv_aload_n hx hb d_T_cut_12 rfl (lv_at hl 2 rfl) ?_
  refine lv_aload_n hx hb d_T_cut_13 rfl (lv_at hl 2 rfl) ?_
  refine xg_T hx hb hts hown hK hP 0 rfl 1 (by decide) k_29 rfl d_T_cut_14 ?_
  refine lv_iload_n hx hb d_T_cut_17 rfl (lv_at hl 1 rfl) ?_
  refine xn_ald hx hb hK hP 2 rfl root (by omega) (by decide) d_T_cut_18 ?_
  refine xp_T hx hb hts hown hK hP hD hS 0 rfl 3 (by decide) k_31 (.int (nI (sm root))) rfl rfl rfl (Nat.le_of_ble_eq_true rfl) d_T_cut_19 (fun H locs hP hD hS => ?_)
  have hP : va_P D classes (ce_T cA h qk qs qg key sm gr (sm root)) H := hP
  have hD : va_D A (ce_T cA h qk qs qg key sm gr (sm root)) := hD
  refine lv_aload_n hx hb d_T_cut_22 rfl (lv_at hl 2 rfl) ?_
  refine xg_T hx hb hts hown hK hP 0 rfl 3 (by decide) k_31 rfl d_T_cut_23 ?_
  refine xn_ifne hx hb (sm root) (by omega) (tgt := 35) d_T_cut_26 (by decide) (fun c0 => ?_) (fun c0 => ?_)
  · refine lv_aload_n hx hb d_T_cut_35 rfl (lv_at hl 2 rfl) ?_
    refine lv_aload_n hx hb d_T_cut_36 rfl (lv_at hl 2 rfl) ?_
    refine xg_T hx hb hts hown hK hP 0 rfl 0 (by decide) k_27 rfl d_T_cut_37 ?_
    refine lv_iload_n hx hb d_T_cut_40 rfl (lv_at hl 1 rfl) ?_
    refine xk_ald hx hb hK hP 1 rfl root (by omega) (by decide) d_T_cut_41 ?_
    refine xc_V (n := 1) (As := [.int (key root)]) (rest := []) (wr := []) (wc := ce_T cA h qk qs qg key sm gr (sm root)) hx hb hml hown hts (c_T_lift l D cA h qk qs qg _ key sm gr (sm root) (key root) la hKa) (xc_G (fun _ h => .tail _ h) (.tail _ k_62) k_63 k_0 k_14 k_64) (by decide +kernel) ⟨rfl, rfl⟩ ⟨Nat.le_of_ble_eq_true rfl, Nat.le_of_ble_eq_true rfl⟩ hK hP hD hS hA [0, 1, 2, 3] [] rfl rfl rfl rfl rfl (by decide) rfl rfl rfl rfl hl.1 rfl (Nat.le_of_ble_eq_true rfl) d_T_cut_42 ⟨Nat.zero_le _, Nat.zero_le _⟩ (fun u H locs hw hP hD hS => ?_)
    obtain ⟨sm1, gr1, r1⟩ := u
    dsimp only at hw
    have hw : tr_P key (key root) sm gr la sm1 gr1 r1 := by
      rcases hw with ⟨q, -⟩ | ⟨-, q⟩
      · exact absurd q c0
      · exact q
    obtain ⟨hT1, hm1⟩ := tr_P_K hKa hw
    have hr1 := tr_K_b hT1
    have hP : va_P D classes (ce_T cA h qk qs qg key sm1 gr1 r1) H := hP
    have hD : va_D A (ce_T cA h qk qs qg key sm1 gr1 r1) := hD
    refine lv_aload_n hx hb d_T_cut_45 rfl (lv_at hl 2 rfl) ?_
    refine xg_T hx hb hts hown hK hP 0 rfl 2 (by decide) k_30 rfl d_T_cut_46 ?_
    refine lv_aload_n hx hb d_T_cut_49 rfl (lv_at hl 2 rfl) ?_
    refine xg_T hx hb hts hown hK hP 0 rfl 3 (by decide) k_31 rfl d_T_cut_50 ?_
    refine lv_iload_n hx hb d_T_cut_53 rfl (lv_at hl 0 rfl) ?_
    refine xn_ast hx hb hK hP hD hS 3 rfl r1 (gr root) (by omega) (by decide) d_T_cut_54 (fun H locs hP hD hS => ?_)
    have hP : va_P D classes (ce_T cA h qk qs qg key sm1 (va_up gr1 r1 (gr root)) r1) H := hP
    have hD : va_D A (ce_T cA h qk qs qg key sm1 (va_up gr1 r1 (gr root)) r1) := hD
    exact hret 55 _ _ _ (sm1, va_up gr1 r1 (gr root), r1) d_T_cut_55 ⟨la ++ lb, tr_cut hKa hKb hA1 hAB hAD hw, hmem⟩ hP hD hS
  · refine lv_aload_n hx hb d_T_cut_29 rfl (lv_at hl 2 rfl) ?_
    refine lv_iload_n hx hb d_T_cut_30 rfl (lv_at hl 0 rfl) ?_
    refine xp_T hx hb hts hown hK hP hD hS 0 rfl 3 (by decide) k_31 (.int (nI (gr root))) rfl rfl rfl (Nat.le_of_ble_eq_true rfl) d_T_cut_31 (fun H locs hP hD hS => ?_)
    have hP : va_P D classes (ce_T cA h qk qs qg key sm gr (gr root)) H := hP
    have hD : va_D A (ce_T cA h qk qs qg key sm gr (gr root)) := hD
    exact hret 34 _ _ _ (sm, gr, gr root) d_T_cut_34 ⟨lb, hKb, fun i => by
          have := hmem i
          rw [tr_nil hKa.1 c0] at this
          simpa using this⟩ hP hD hS
end
section
/-! ROW: contracts of place, loose, fasten, change (printed by gen/map.py) -/
set_option maxHeartbeats 4000000 in
set_option maxRecDepth 100000 in
/-- place: a place to be had again, or the next one -/
theorem c_X_place (l : Launch) (D : va_G) (cA : ClassId) (hX h qv qb qh hz : Nat) (vl : Nat → Int32) (bf bh : Nat → Nat) (fr bk n us fe : Nat) (fl : List Nat) (hF : rw_F bh fe fl) (hfl : ∀ i ∈ fl, 0 < i ∧ i < 4097) : xm_I l D cA y_X_place b_X_place 2 ({ frames := 0, cells := 0, slots := 0, locals := 0 }) [.ref hX] (ce_R cA hX h qv qb qh vl bf bh fr bk n us fe) hz (fun (r : Int32) (u : Nat × Nat) => ∃ q : Nat, r = nI q ∧ ((∃ fl2, fl = q :: fl2 ∧ rw_F bh u.2 fl2 ∧ u.1 = us) ∨ (fl = [] ∧ q = us + 1 ∧ u.1 = us + 1 ∧ u.2 = 0))) (fun u : Nat × Nat => ce_R cA hX h qv qb qh vl bf bh fr bk n u.1 u.2) := by
  refine xm_I_of (by decide) (Nat.le_of_ble_eq_true rfl) ?_
  intro p e s m below meth c A Q ls hx hb hml hown hts hl hP hK hD hS hA hret
  have hown : s.vm.findClass "RecentMap" = some m.cls := hown
  have hl : lv_has ls 2 [(0, .ref hX)] := hl
  have hfe : fe < 4097 := by
    cases fl with
    | nil => have q : fe = 0 := hF; omega
    | cons z fl => rw [hF.1]; exact (hfl z (by simp)).2
  refine lv_aload_n hx hb d_X_place_0 rfl (lv_at hl 0 rfl) ?_
  refine xg_X hx hb hts hown hK hP 0 rfl 8 (by decide) k_45 rfl d_X_place_1 ?_
  refine xn_ifeq hx hb fe (by omega) (tgt := 24) d_X_place_4 (by decide) (fun c0 => ?_) (fun c0 => ?_)
  · refine lv_aload_n hx hb d_X_place_24 rfl (lv_at hl 0 rfl) ?_
    refine lv_dup hx hb d_X_place_25 rfl ?_
    refine xg_X hx hb hts hown hK hP 0 rfl 7 (by decide) k_44 rfl d_X_place_26 ?_
    refine lv_iconst (v := 1) hx hb d_X_place_29 (by decide) ?_
    refine lv_iadd hx hb d_X_place_30 ?_
    refine xi_top (nI (us + 1)) (nI_1 _) ?_
    refine xp_X hx hb hts hown hK hP hD hS 0 rfl 7 (by decide) k_44 (.int (nI (us + 1))) rfl rfl rfl (Nat.le_of_ble_eq_true rfl) d_X_place_31 (fun H locs hP hD hS => ?_)
    have hP : va_P D classes (ce_R cA hX h qv qb qh vl bf bh fr bk n (us + 1) fe) H := hP
    have hD : va_D A (ce_R cA hX h qv qb qh vl bf bh fr bk n (us + 1) fe) := hD
    refine lv_aload_n hx hb d_X_place_34 rfl (lv_at hl 0 rfl) ?_
    refine xg_X hx hb hts hown hK hP 0 rfl 7 (by decide) k_44 rfl d_X_place_35 ?_
    exact hret 38 _ _ _ (nI (us + 1)) (us + 1, fe) d_X_place_38 ⟨us + 1, rfl, Or.inr ⟨by
          cases fl with
          | nil => rfl
          | cons z fl => exact absurd (hF.1.symm.trans c0) (by have := (hfl z (by simp)).1; omega), rfl, rfl, c0⟩⟩ hP hD hS
  · refine lv_aload_n hx hb d_X_place_7 rfl (lv_at hl 0 rfl) ?_
    refine xg_X hx hb hts hown hK hP 0 rfl 8 (by decide) k_45 rfl d_X_place_8 ?_
    refine lv_istore_n (lv' := [(1, .int (nI fe)), (0, .ref hX)]) hx hb d_X_place_11 rfl hl (by decide) rfl (fun ls hl => ?_)
    refine lv_aload_n hx hb d_X_place_12 rfl (lv_at hl 1 rfl) ?_
    refine lv_aload_n hx hb d_X_place_13 rfl (lv_at hl 1 rfl) ?_
    refine xg_X hx hb hts hown hK hP 0 rfl 3 (by decide) k_40 rfl d_X_place_14 ?_
    refine lv_iload_n hx hb d_X_place_17 rfl (lv_at hl 0 rfl) ?_
    refine xn_ald hx hb hK hP 3 rfl fe (by omega) (by decide) d_X_place_18 ?_
    refine xp_X hx hb hts hown hK hP hD hS 0 rfl 8 (by decide) k_45 (.int (nI (bh fe))) rfl rfl rfl (Nat.le_of_ble_eq_true rfl) d_X_place_19 (fun H locs hP hD hS => ?_)
    have hP : va_P D classes (ce_R cA hX h qv qb qh vl bf bh fr bk n us (bh fe)) H := hP
    have hD : va_D A (ce_R cA hX h qv qb qh vl bf bh fr bk n us (bh fe)) := hD
    refine lv_iload_n hx hb d_X_place_22 rfl (lv_at hl 0 rfl) ?_
    exact hret 23 _ _ _ (nI fe) (us, bh fe) d_X_place_23 ⟨fe, rfl, Or.inl (by
          cases fl with
          | nil => exact absurd hF c0
          | cons z fl =>
            have e : fe = z := hF.1
            subst e
            exact ⟨fl, rfl, hF.2, rfl⟩)⟩ hP hD hS
set_option maxHeartbeats 4000000 in
set_option maxRecDepth 100000 in
/-- loose: a place goes out of the row -/
theorem c_X_loose (l : Launch) (D : va_G) (cA : ClassId) (hX h qv qb qh hz : Nat) (vl : Nat → Int32) (bf bh : Nat → Nat) (fr bk n us fe : Nat) (pl : Nat) (x y : List Nat) (hD0 : rw_D bf bh fr bk (x ++ pl :: y)) (hnd : (x ++ pl :: y).Nodup) (hbd : ∀ i ∈ x ++ pl :: y, 0 < i ∧ i < 4097) : xm_V l D cA y_X_loose b_X_loose 4 ({ frames := 0, cells := 0, slots := 0, locals := 0 }) [.ref hX, .int (nI pl)] (ce_R cA hX h qv qb qh vl bf bh fr bk n us fe) hz (fun u : (Nat → Nat) × (Nat → Nat) × Nat × Nat => rw_D u.1 u.2.1 u.2.2.1 u.2.2.2 (x ++ y) ∧ ∀ i, i ∉ x ++ pl :: y → u.2.1 i = bh i) (fun u : (Nat → Nat) × (Nat → Nat) × Nat × Nat => ce_R cA hX h qv qb qh vl u.1 u.2.1 u.2.2.1 u.2.2.2 n us fe) := by
  refine xm_V_of (by decide) (Nat.le_of_ble_eq_true rfl) ?_
  intro p e s m below meth c A Q ls hx hb hml hown hts hl hP hK hD hS hA hret
  have hown : s.vm.findClass "RecentMap" = some m.cls := hown
  have hl : lv_has ls 4 [(0, .ref hX), (1, .int (nI pl))] := hl
  have hpl : pl < 4097 := (hbd pl (by simp)).2
  have hz : 0 ∉ x ++ pl :: y := fun q => absurd (hbd 0 q).1 (Nat.lt_irrefl 0)
  have g := hD0.2.2 x pl y rfl
  have ha : bf pl = 0 ∨ bf pl ∈ x := by
    rw [g.1]
    rcases rw_l_mem x with q | q
    · exact Or.inl q.2
    · exact Or.inr q
  have hb1 : bh pl = 0 ∨ bh pl ∈ y := by
    rw [g.2]
    rcases rw_h_mem y with q | q
    · exact Or.inl q.2
    · exact Or.inr q
  have hab : bf pl < 4097 := by
    rcases ha with q | q
    · omega
    · exact (hbd _ (by simp [q])).2
  have hbb : bh pl < 4097 := by
    rcases hb1 with q | q
    · omega
    · exact (hbd _ (by simp [q])).2
  have hfm : bf pl ≠ 0 → ∀ i, i ∉ x ++ pl :: y → va_up bh (bf pl) (bh pl) i = bh i := by
    intro q i hi
    rcases ha with w | w
    · exact absurd w q
    · exact va_up_ne _ _ (fun c => hi (by rw [c]; simp [w]))
  refine lv_aload_n hx hb d_X_loose_0 rfl (lv_at hl 0 rfl) ?_
  refine xg_X hx hb hts hown hK hP 0 rfl 2 (by decide) k_39 rfl d_X_loose_1 ?_
  refine lv_iload_n hx hb d_X_loose_4 rfl (lv_at hl 1 rfl) ?_
  refine xn_ald hx hb hK hP 2 rfl pl (by omega) (by decide) d_X_loose_5 ?_
  refine lv_istore_n (lv' := [(2, .int (nI (bf pl))), (0, .ref hX), (1, .int (nI pl))]) hx hb d_X_loose_6 rfl hl (by decide) rfl (fun ls hl => ?_)
  refine lv_aload_n hx hb d_X_loose_7 rfl (lv_at hl 1 rfl) ?_
  refine xg_X hx hb hts hown hK hP 0 rfl 3 (by decide) k_40 rfl d_X_loose_8 ?_
  refine lv_iload_n hx hb d_X_loose_11 rfl (lv_at hl 2 rfl) ?_
  refine xn_ald hx hb hK hP 3 rfl pl (by omega) (by decide) d_X_loose_12 ?_
  refine lv_istore_n (lv' := [(3, .int (nI (bh pl))), (2, .int (nI (bf pl))), (0, .ref hX), (1, .int (nI pl))]) hx hb d_X_loose_13 rfl hl (by decide) rfl (fun ls hl => ?_)
  refine lv_iload_n hx hb d_X_loose_14 rfl (lv_at hl 1 rfl) ?_
  refine xn_ifne hx hb (bf pl) (by omega) (tgt := 26) d_X_loose_15 (by decide) (fun ca => ?_) (fun ca => ?_)
  · refine lv_aload_n hx hb d_X_loose_26 rfl (lv_at hl 2 rfl) ?_
    refine xg_X hx hb hts hown hK hP 0 rfl 3 (by decide) k_40 rfl d_X_loose_27 ?_
    refine lv_iload_n hx hb d_X_loose_30 rfl (lv_at hl 1 rfl) ?_
    refine lv_iload_n hx hb d_X_loose_31 rfl (lv_at hl 0 rfl) ?_
    refine xn_ast hx hb hK hP hD hS 3 rfl (bf pl) (bh pl) (by omega) (by decide) d_X_loose_32 (fun H locs hP hD hS => ?_)
    have hP : va_P D classes (ce_R cA hX h qv qb qh vl bf (va_up bh (bf pl) (bh pl)) fr bk n us fe) H := hP
    have hD : va_D A (ce_R cA hX h qv qb qh vl bf (va_up bh (bf pl) (bh pl)) fr bk n us fe) := hD
    refine lv_iload_n hx hb d_X_loose_33 rfl (lv_at hl 0 rfl) ?_
    refine xn_ifne hx hb (bh pl) (by omega) (tgt := 45) d_X_loose_34 (by decide) (fun cb => ?_) (fun cb => ?_)
    · refine lv_aload_n hx hb d_X_loose_45 rfl (lv_at hl 2 rfl) ?_
      refine xg_X hx hb hts hown hK hP 0 rfl 2 (by decide) k_39 rfl d_X_loose_46 ?_
      refine lv_iload_n hx hb d_X_loose_49 rfl (lv_at hl 0 rfl) ?_
      refine lv_iload_n hx hb d_X_loose_50 rfl (lv_at hl 1 rfl) ?_
      refine xn_ast hx hb hK hP hD hS 2 rfl (bh pl) (bf pl) (by omega) (by decide) d_X_loose_51 (fun H locs hP hD hS => ?_)
      have hP : va_P D classes (ce_R cA hX h qv qb qh vl (va_up bf (bh pl) (bf pl)) (va_up bh (bf pl) (bh pl)) fr bk n us fe) H := hP
      have hD : va_D A (ce_R cA hX h qv qb qh vl (va_up bf (bh pl) (bf pl)) (va_up bh (bf pl) (bh pl)) fr bk n us fe) := hD
      exact hret 52 _ _ _ (va_up bf (bh pl) (bf pl), va_up bh (bf pl) (bh pl), fr, bk) d_X_loose_52 ⟨rw_loose hD0 hnd hz (Or.inr ⟨ca, rfl, rfl⟩) (Or.inr ⟨cb, rfl, rfl⟩), hfm ca⟩ hP hD hS
    · refine lv_aload_n hx hb d_X_loose_37 rfl (lv_at hl 2 rfl) ?_
      refine lv_iload_n hx hb d_X_loose_38 rfl (lv_at hl 1 rfl) ?_
      refine xp_X hx hb hts hown hK hP hD hS 0 rfl 5 (by decide) k_42 (.int (nI (bf pl))) rfl rfl rfl (Nat.le_of_ble_eq_true rfl) d_X_loose_39 (fun H locs hP hD hS => ?_)
      have hP : va_P D classes (ce_R cA hX h qv qb qh vl bf (va_up bh (bf pl) (bh pl)) fr (bf pl) n us fe) H := hP
      have hD : va_D A (ce_R cA hX h qv qb qh vl bf (va_up bh (bf pl) (bh pl)) fr (bf pl) n us fe) := hD
      refine lv_goto (tgt := 52) hx hb d_X_loose_42 (by decide) ?_
      exact hret 52 _ _ _ (bf, va_up bh (bf pl) (bh pl), fr, bf pl) d_X_loose_52 ⟨rw_loose hD0 hnd hz (Or.inr ⟨ca, rfl, rfl⟩) (Or.inl ⟨cb, rfl, rfl⟩), hfm ca⟩ hP hD hS
  · refine lv_aload_n hx hb d_X_loose_18 rfl (lv_at hl 2 rfl) ?_
    refine lv_iload_n hx hb d_X_loose_19 rfl (lv_at hl 0 rfl) ?_
    refine xp_X hx hb hts hown hK hP hD hS 0 rfl 4 (by decide) k_41 (.int (nI (bh pl))) rfl rfl rfl (Nat.le_of_ble_eq_true rfl) d_X_loose_20 (fun H locs hP hD hS => ?_)
    have hP : va_P D classes (ce_R cA hX h qv qb qh vl bf bh (bh pl) bk n us fe) H := hP
    have hD : va_D A (ce_R cA hX h qv qb qh vl bf bh (bh pl) bk n us fe) := hD
    refine lv_goto (tgt := 33) hx hb d_X_loose_23 (by decide) ?_
    refine lv_iload_n hx hb d_X_loose_33 rfl (lv_at hl 0 rfl) ?_
    refine xn_ifne hx hb (bh pl) (by omega) (tgt := 45) d_X_loose_34 (by decide) (fun cb => ?_) (fun cb => ?_)
    · refine lv_aload_n hx hb d_X_loose_45 rfl (lv_at hl 2 rfl) ?_
      refine xg_X hx hb hts hown hK hP 0 rfl 2 (by decide) k_39 rfl d_X_loose_46 ?_
      refine lv_iload_n hx hb d_X_loose_49 rfl (lv_at hl 0 rfl) ?_
      refine lv_iload_n hx hb d_X_loose_50 rfl (lv_at hl 1 rfl) ?_
      refine xn_ast hx hb hK hP hD hS 2 rfl (bh pl) (bf pl) (by omega) (by decide) d_X_loose_51 (fun H locs hP hD hS => ?_)
      have hP : va_P D classes (ce_R cA hX h qv qb qh vl (va_up bf (bh pl) (bf pl)) bh (bh pl) bk n us fe) H := hP
      have hD : va_D A (ce_R cA hX h qv qb qh vl (va_up bf (bh pl) (bf pl)) bh (bh pl) bk n us fe) := hD
      exact hret 52 _ _ _ (va_up bf (bh pl) (bf pl), bh, bh pl, bk) d_X_loose_52 ⟨rw_loose hD0 hnd hz (Or.inl ⟨ca, rfl, rfl⟩) (Or.inr ⟨cb, rfl, rfl⟩), fun _ _ => rfl⟩ hP hD hS
    · refine lv_aload_n hx hb d_X_loose_37 rfl (lv_at hl 2 rfl) ?_
      refine lv_iload_n hx hb d_X_loose_38 rfl (lv_at hl 1 rfl) ?_
      refine xp_X hx hb hts hown hK hP hD hS 0 rfl 5 (by decide) k_42 (.int (nI (bf pl))) rfl rfl rfl (Nat.le_of_ble_eq_true rfl) d_X_loose_39 (fun H locs hP hD hS => ?_)
      have hP : va_P D classes (ce_R cA hX h qv qb qh vl bf bh (bh pl) (bf pl) n us fe) H := hP
      have hD : va_D A (ce_R cA hX h qv qb qh vl bf bh (bh pl) (bf pl) n us fe) := hD
      refine lv_goto (tgt := 52) hx hb d_X_loose_42 (by decide) ?_
      exact hret 52 _ _ _ (bf, bh, bh pl, bf pl) d_X_loose_52 ⟨rw_loose hD0 hnd hz (Or.inl ⟨ca, rfl, rfl⟩) (Or.inl ⟨cb, rfl, rfl⟩), fun _ _ => rfl⟩ hP hD hS
set_option maxHeartbeats 4000000 in
set_option maxRecDepth 100000 in
/-- fasten: a place comes to the front or to the end of the row -/
theorem c_X_fasten (l : Launch) (D : va_G) (cA : ClassId) (hX h qv qb qh hz : Nat) (vl : Nat → Int32) (bf bh : Nat → Nat) (fr bk n us fe : Nat) (pl : Nat) (f : Int32) (o : List Nat) (hD0 : rw_D bf bh fr bk o) (hnd : o.Nodup) (hbd : ∀ i ∈ o, 0 < i ∧ i < 4097) (hp0 : 0 < pl) (hpb : pl < 4097) (hpo : pl ∉ o) : xm_V l D cA y_X_fasten b_X_fasten 3 ({ frames := 0, cells := 0, slots := 0, locals := 0 }) [.ref hX, .int (nI pl), .int f] (ce_R cA hX h qv qb qh vl bf bh fr bk n us fe) hz (fun u : (Nat → Nat) × (Nat → Nat) × Nat × Nat => rw_D u.1 u.2.1 u.2.2.1 u.2.2.2 (rm_mv f pl o) ∧ ∀ i, i ∉ o → i ≠ pl → u.2.1 i = bh i) (fun u : (Nat → Nat) × (Nat → Nat) × Nat × Nat => ce_R cA hX h qv qb qh vl u.1 u.2.1 u.2.2.1 u.2.2.2 n us fe) := by
  refine xm_V_of (by decide) (Nat.le_of_ble_eq_true rfl) ?_
  intro p e s m below meth c A Q ls hx hb hml hown hts hl hP hK hD hS hA hret
  have hown : s.vm.findClass "RecentMap" = some m.cls := hown
  have hl : lv_has ls 3 [(0, .ref hX), (1, .int (nI pl)), (2, .int f)] := hl
  have hz : 0 ∉ o := fun q => absurd (hbd 0 q).1 (Nat.lt_irrefl 0)
  have hf1 : fr = 0 ∨ fr ∈ o := by
    rw [hD0.1]
    rcases rw_h_mem o with q | q
    · exact Or.inl q.2
    · exact Or.inr q
  have hk1 : bk = 0 ∨ bk ∈ o := by
    rw [hD0.2.1]
    rcases rw_l_mem o with q | q
    · exact Or.inl q.2
    · exact Or.inr q
  have hfr : fr < 4097 := by
    rcases hf1 with q | q
    · omega
    · exact (hbd _ q).2
  have hbk : bk < 4097 := by
    rcases hk1 with q | q
    · omega
    · exact (hbd _ q).2
  refine lv_aload_n hx hb d_X_fasten_0 rfl (lv_at hl 0 rfl) ?_
  refine xg_X hx hb hts hown hK hP 0 rfl 2 (by decide) k_39 rfl d_X_fasten_1 ?_
  refine lv_iload_n hx hb d_X_fasten_4 rfl (lv_at hl 1 rfl) ?_
  refine lv_iload_n hx hb d_X_fasten_5 rfl (lv_at hl 2 rfl) ?_
  refine lv_if_eq (tgt := 13) hx hb d_X_fasten_6 (by decide) (fun cf => ?_) (fun cf => ?_)
  · refine lv_aload_n hx hb d_X_fasten_13 rfl (lv_at hl 0 rfl) ?_
    refine xg_X hx hb hts hown hK hP 0 rfl 5 (by decide) k_42 rfl d_X_fasten_14 ?_
    refine xn_ast hx hb hK hP hD hS 2 rfl pl bk (by omega) (by decide) d_X_fasten_17 (fun H locs hP hD hS => ?_)
    have hP : va_P D classes (ce_R cA hX h qv qb qh vl (va_up bf pl bk) bh fr bk n us fe) H := hP
    have hD : va_D A (ce_R cA hX h qv qb qh vl (va_up bf pl bk) bh fr bk n us fe) := hD
    refine lv_aload_n hx hb d_X_fasten_18 rfl (lv_at hl 0 rfl) ?_
    refine xg_X hx hb hts hown hK hP 0 rfl 3 (by decide) k_40 rfl d_X_fasten_19 ?_
    refine lv_iload_n hx hb d_X_fasten_22 rfl (lv_at hl 1 rfl) ?_
    refine lv_iload_n hx hb d_X_fasten_23 rfl (lv_at hl 2 rfl) ?_
    refine lv_if_eq (tgt := 34) hx hb d_X_fasten_24 (by decide) (fun _ => ?_) (fun q => absurd cf q)
    refine lv_iconst (v := 0) hx hb d_X_fasten_34 (by decide) ?_
    refine xn_ast hx hb hK hP hD hS 3 rfl pl 0 (by omega) (by decide) d_X_fasten_35 (fun H locs hP hD hS => ?_)
    have hP : va_P D classes (ce_R cA hX h qv qb qh vl (va_up bf pl bk) (va_up bh pl 0) fr bk n us fe) H := hP
    have hD : va_D A (ce_R cA hX h qv qb qh vl (va_up bf pl bk) (va_up bh pl 0) fr bk n us fe) := hD
    refine lv_iload_n hx hb d_X_fasten_36 rfl (lv_at hl 2 rfl) ?_
    refine lv_if_eq (tgt := 77) hx hb d_X_fasten_37 (by decide) (fun _ => ?_) (fun q => absurd cf q)
    refine lv_aload_n hx hb d_X_fasten_77 rfl (lv_at hl 0 rfl) ?_
    refine xg_X hx hb hts hown hK hP 0 rfl 5 (by decide) k_42 rfl d_X_fasten_78 ?_
    refine xn_ifeq hx hb bk (by omega) (tgt := 94) d_X_fasten_81 (by decide) (fun c1 => ?_) (fun c1 => ?_)
    · refine lv_aload_n hx hb d_X_fasten_94 rfl (lv_at hl 0 rfl) ?_
      refine lv_iload_n hx hb d_X_fasten_95 rfl (lv_at hl 1 rfl) ?_
      refine xp_X hx hb hts hown hK hP hD hS 0 rfl 5 (by decide) k_42 (.int (nI pl)) rfl rfl rfl (Nat.le_of_ble_eq_true rfl) d_X_fasten_96 (fun H locs hP hD hS => ?_)
      have hP : va_P D classes (ce_R cA hX h qv qb qh vl (va_up bf pl bk) (va_up bh pl 0) fr pl n us fe) H := hP
      have hD : va_D A (ce_R cA hX h qv qb qh vl (va_up bf pl bk) (va_up bh pl 0) fr pl n us fe) := hD
      refine lv_aload_n hx hb d_X_fasten_99 rfl (lv_at hl 0 rfl) ?_
      refine xg_X hx hb hts hown hK hP 0 rfl 4 (by decide) k_41 rfl d_X_fasten_100 ?_
      refine xn_ifne hx hb fr (by omega) (tgt := 111) d_X_fasten_103 (by decide) (fun c2 => ?_) (fun c2 => ?_)
      · exact hret 111 _ _ _ (va_up bf pl bk, va_up bh pl 0, fr, pl) d_X_fasten_111 ⟨by rw [show rm_mv f pl o = _ from if_pos cf]; exact rw_end hD0 hnd hz hpo (by omega) (Or.inl ⟨c1, rfl⟩) (Or.inr ⟨c2, rfl⟩), fun i hi hip => va_up_ne _ _ hip⟩ hP hD hS
      · refine lv_aload_n hx hb d_X_fasten_106 rfl (lv_at hl 0 rfl) ?_
        refine lv_iload_n hx hb d_X_fasten_107 rfl (lv_at hl 1 rfl) ?_
        refine xp_X hx hb hts hown hK hP hD hS 0 rfl 4 (by decide) k_41 (.int (nI pl)) rfl rfl rfl (Nat.le_of_ble_eq_true rfl) d_X_fasten_108 (fun H locs hP hD hS => ?_)
        have hP : va_P D classes (ce_R cA hX h qv qb qh vl (va_up bf pl bk) (va_up bh pl 0) pl pl n us fe) H := hP
        have hD : va_D A (ce_R cA hX h qv qb qh vl (va_up bf pl bk) (va_up bh pl 0) pl pl n us fe) := hD
        exact hret 111 _ _ _ (va_up bf pl bk, va_up bh pl 0, pl, pl) d_X_fasten_111 ⟨by rw [show rm_mv f pl o = _ from if_pos cf]; exact rw_end hD0 hnd hz hpo (by omega) (Or.inl ⟨c1, rfl⟩) (Or.inl ⟨c2, rfl⟩), fun i hi hip => va_up_ne _ _ hip⟩ hP hD hS
    · refine lv_aload_n hx hb d_X_fasten_84 rfl (lv_at hl 0 rfl) ?_
      refine xg_X hx hb hts hown hK hP 0 rfl 3 (by decide) k_40 rfl d_X_fasten_85 ?_
      refine lv_aload_n hx hb d_X_fasten_88 rfl (lv_at hl 0 rfl) ?_
      refine xg_X hx hb hts hown hK hP 0 rfl 5 (by decide) k_42 rfl d_X_fasten_89 ?_
      refine lv_iload_n hx hb d_X_fasten_92 rfl (lv_at hl 1 rfl) ?_
      refine xn_ast hx hb hK hP hD hS 3 rfl bk pl (by omega) (by decide) d_X_fasten_93 (fun H locs hP hD hS => ?_)
      have hP : va_P D classes (ce_R cA hX h qv qb qh vl (va_up bf pl bk) (va_up (va_up bh pl 0) bk pl) fr bk n us fe) H := hP
      have hD : va_D A (ce_R cA hX h qv qb qh vl (va_up bf pl bk) (va_up (va_up bh pl 0) bk pl) fr bk n us fe) := hD
      refine lv_aload_n hx hb d_X_fasten_94 rfl (lv_at hl 0 rfl) ?_
      refine lv_iload_n hx hb d_X_fasten_95 rfl (lv_at hl 1 rfl) ?_
      refine xp_X hx hb hts hown hK hP hD hS 0 rfl 5 (by decide) k_42 (.int (nI pl)) rfl rfl rfl (Nat.le_of_ble_eq_true rfl) d_X_fasten_96 (fun H locs hP hD hS => ?_)
      have hP : va_P D classes (ce_R cA hX h qv qb qh vl (va_up bf pl bk) (va_up (va_up bh pl 0) bk pl) fr pl n us fe) H := hP
      have hD : va_D A (ce_R cA hX h qv qb qh vl (va_up bf pl bk) (va_up (va_up bh pl 0) bk pl) fr pl n us fe) := hD
      refine lv_aload_n hx hb d_X_fasten_99 rfl (lv_at hl 0 rfl) ?_
      refine xg_X hx hb hts hown hK hP 0 rfl 4 (by decide) k_41 rfl d_X_fasten_100 ?_
      refine xn_ifne hx hb fr (by omega) (tgt := 111) d_X_fasten_103 (by decide) (fun c2 => ?_) (fun c2 => ?_)
      · exact hret 111 _ _ _ (va_up bf pl bk, va_up (va_up bh pl 0) bk pl, fr, pl) d_X_fasten_111 ⟨by rw [show rm_mv f pl o = _ from if_pos cf]; exact rw_end hD0 hnd hz hpo (by omega) (Or.inr ⟨c1, rfl⟩) (Or.inr ⟨c2, rfl⟩), fun i hi hip => by
                  show va_up (va_up bh pl 0) bk pl i = bh i
                  rw [va_up_ne _ _ (fun c => hi (by
                    rw [c]
                    rcases hk1 with w | w
                    · exact absurd w c1
                    · exact w)), va_up_ne _ _ hip]⟩ hP hD hS
      · refine lv_aload_n hx hb d_X_fasten_106 rfl (lv_at hl 0 rfl) ?_
        refine lv_iload_n hx hb d_X_fasten_107 rfl (lv_at hl 1 rfl) ?_
        refine xp_X hx hb hts hown hK hP hD hS 0 rfl 4 (by decide) k_41 (.int (nI pl)) rfl rfl rfl (Nat.le_of_ble_eq_true rfl) d_X_fasten_108 (fun H locs hP hD hS => ?_)
        have hP : va_P D classes (ce_R cA hX h qv qb qh vl (va_up bf pl bk) (va_up (va_up bh pl 0) bk pl) pl pl n us fe) H := hP
        have hD : va_D A (ce_R cA hX h qv qb qh vl (va_up bf pl bk) (va_up (va_up bh pl 0) bk pl) pl pl n us fe) := hD
        exact hret 111 _ _ _ (va_up bf pl bk, va_up (va_up bh pl 0) bk pl, pl, pl) d_X_fasten_111 ⟨by rw [show rm_mv f pl o = _ from if_pos cf]; exact rw_end hD0 hnd hz hpo (by omega) (Or.inr ⟨c1, rfl⟩) (Or.inl ⟨c2, rfl⟩), fun i hi hip => by
                  show va_up (va_up bh pl 0) bk pl i = bh i
                  rw [va_up_ne _ _ (fun c => hi (by
                    rw [c]
                    rcases hk1 with w | w
                    · exact absurd w c1
                    · exact w)), va_up_ne _ _ hip]⟩ hP hD hS
  · refine lv_iconst (v := 0) hx hb d_X_fasten_9 (by decide) ?_
    refine lv_goto (tgt := 17) hx hb d_X_fasten_10 (by decide) ?_
    refine xn_ast hx hb hK hP hD hS 2 rfl pl 0 (by omega) (by decide) d_X_fasten_17 (fun H locs hP hD hS => ?_)
    have hP : va_P D classes (ce_R cA hX h qv qb qh vl (va_up bf pl 0) bh fr bk n us fe) H := hP
    have hD : va_D A (ce_R cA hX h qv qb qh vl (va_up bf pl 0) bh fr bk n us fe) := hD
    refine lv_aload_n hx hb d_X_fasten_18 rfl (lv_at hl 0 rfl) ?_
    refine xg_X hx hb hts hown hK hP 0 rfl 3 (by decide) k_40 rfl d_X_fasten_19 ?_
    refine lv_iload_n hx hb d_X_fasten_22 rfl (lv_at hl 1 rfl) ?_
    refine lv_iload_n hx hb d_X_fasten_23 rfl (lv_at hl 2 rfl) ?_
    refine lv_if_eq (tgt := 34) hx hb d_X_fasten_24 (by decide) (fun q => absurd q cf) (fun _ => ?_)
    refine lv_aload_n hx hb d_X_fasten_27 rfl (lv_at hl 0 rfl) ?_
    refine xg_X hx hb hts hown hK hP 0 rfl 4 (by decide) k_41 rfl d_X_fasten_28 ?_
    refine lv_goto (tgt := 35) hx hb d_X_fasten_31 (by decide) ?_
    refine xn_ast hx hb hK hP hD hS 3 rfl pl fr (by omega) (by decide) d_X_fasten_35 (fun H locs hP hD hS => ?_)
    have hP : va_P D classes (ce_R cA hX h qv qb qh vl (va_up bf pl 0) (va_up bh pl fr) fr bk n us fe) H := hP
    have hD : va_D A (ce_R cA hX h qv qb qh vl (va_up bf pl 0) (va_up bh pl fr) fr bk n us fe) := hD
    refine lv_iload_n hx hb d_X_fasten_36 rfl (lv_at hl 2 rfl) ?_
    refine lv_if_eq (tgt := 77) hx hb d_X_fasten_37 (by decide) (fun q => absurd q cf) (fun _ => ?_)
    refine lv_aload_n hx hb d_X_fasten_40 rfl (lv_at hl 0 rfl) ?_
    refine xg_X hx hb hts hown hK hP 0 rfl 4 (by decide) k_41 rfl d_X_fasten_41 ?_
    refine xn_ifeq hx hb fr (by omega) (tgt := 57) d_X_fasten_44 (by decide) (fun c1 => ?_) (fun c1 => ?_)
    · refine lv_aload_n hx hb d_X_fasten_57 rfl (lv_at hl 0 rfl) ?_
      refine lv_iload_n hx hb d_X_fasten_58 rfl (lv_at hl 1 rfl) ?_
      refine xp_X hx hb hts hown hK hP hD hS 0 rfl 4 (by decide) k_41 (.int (nI pl)) rfl rfl rfl (Nat.le_of_ble_eq_true rfl) d_X_fasten_59 (fun H locs hP hD hS => ?_)
      have hP : va_P D classes (ce_R cA hX h qv qb qh vl (va_up bf pl 0) (va_up bh pl fr) pl bk n us fe) H := hP
      have hD : va_D A (ce_R cA hX h qv qb qh vl (va_up bf pl 0) (va_up bh pl fr) pl bk n us fe) := hD
      refine lv_aload_n hx hb d_X_fasten_62 rfl (lv_at hl 0 rfl) ?_
      refine xg_X hx hb hts hown hK hP 0 rfl 5 (by decide) k_42 rfl d_X_fasten_63 ?_
      refine xn_ifne hx hb bk (by omega) (tgt := 111) d_X_fasten_66 (by decide) (fun c2 => ?_) (fun c2 => ?_)
      · exact hret 111 _ _ _ (va_up bf pl 0, va_up bh pl fr, pl, bk) d_X_fasten_111 ⟨by rw [show rm_mv f pl o = _ from if_neg cf]; exact rw_first hD0 hnd hz hpo (by omega) (Or.inl ⟨c1, rfl⟩) (Or.inr ⟨c2, rfl⟩), fun i hi hip => va_up_ne _ _ hip⟩ hP hD hS
      · refine lv_aload_n hx hb d_X_fasten_69 rfl (lv_at hl 0 rfl) ?_
        refine lv_iload_n hx hb d_X_fasten_70 rfl (lv_at hl 1 rfl) ?_
        refine xp_X hx hb hts hown hK hP hD hS 0 rfl 5 (by decide) k_42 (.int (nI pl)) rfl rfl rfl (Nat.le_of_ble_eq_true rfl) d_X_fasten_71 (fun H locs hP hD hS => ?_)
        have hP : va_P D classes (ce_R cA hX h qv qb qh vl (va_up bf pl 0) (va_up bh pl fr) pl pl n us fe) H := hP
        have hD : va_D A (ce_R cA hX h qv qb qh vl (va_up bf pl 0) (va_up bh pl fr) pl pl n us fe) := hD
        refine lv_goto (tgt := 111) hx hb d_X_fasten_74 (by decide) ?_
        exact hret 111 _ _ _ (va_up bf pl 0, va_up bh pl fr, pl, pl) d_X_fasten_111 ⟨by rw [show rm_mv f pl o = _ from if_neg cf]; exact rw_first hD0 hnd hz hpo (by omega) (Or.inl ⟨c1, rfl⟩) (Or.inl ⟨c2, rfl⟩), fun i hi hip => va_up_ne _ _ hip⟩ hP hD hS
    · refine lv_aload_n hx hb d_X_fasten_47 rfl (lv_at hl 0 rfl) ?_
      refine xg_X hx hb hts hown hK hP 0 rfl 2 (by decide) k_39 rfl d_X_fasten_48 ?_
      refine lv_aload_n hx hb d_X_fasten_51 rfl (lv_at hl 0 rfl) ?_
      refine xg_X hx hb hts hown hK hP 0 rfl 4 (by decide) k_41 rfl d_X_fasten_52 ?_
      refine lv_iload_n hx hb d_X_fasten_55 rfl (lv_at hl 1 rfl) ?_
      refine xn_ast hx hb hK hP hD hS 2 rfl fr pl (by omega) (by decide) d_X_fasten_56 (fun H locs hP hD hS => ?_)
      have hP : va_P D classes (ce_R cA hX h qv qb qh vl (va_up (va_up bf pl 0) fr pl) (va_up bh pl fr) fr bk n us fe) H := hP
      have hD : va_D A (ce_R cA hX h qv qb qh vl (va_up (va_up bf pl 0) fr pl) (va_up bh pl fr) fr bk n us fe) := hD
      refine lv_aload_n hx hb d_X_fasten_57 rfl (lv_at hl 0 rfl) ?_
      refine lv_iload_n hx hb d_X_fasten_58 rfl (lv_at hl 1 rfl) ?_
      refine xp_X hx hb hts hown hK hP hD hS 0 rfl 4 (by decide) k_41 (.int (nI pl)) rfl rfl rfl (Nat.le_of_ble_eq_true rfl) d_X_fasten_59 (fun H locs hP hD hS => ?_)
      have hP : va_P D classes (ce_R cA hX h qv qb qh vl (va_up (va_up bf pl 0) fr pl) (va_up bh pl fr) pl bk n us fe) H := hP
      have hD : va_D A (ce_R cA hX h qv qb qh vl (va_up (va_up bf pl 0) fr pl) (va_up bh pl fr) pl bk n us fe) := hD
      refine lv_aload_n hx hb d_X_fasten_62 rfl (lv_at hl 0 rfl) ?_
      refine xg_X hx hb hts hown hK hP 0 rfl 5 (by decide) k_42 rfl d_X_fasten_63 ?_
      refine xn_ifne hx hb bk (by omega) (tgt := 111) d_X_fasten_66 (by decide) (fun c2 => ?_) (fun c2 => ?_)
      · exact hret 111 _ _ _ (va_up (va_up bf pl 0) fr pl, va_up bh pl fr, pl, bk) d_X_fasten_111 ⟨by rw [show rm_mv f pl o = _ from if_neg cf]; exact rw_first hD0 hnd hz hpo (by omega) (Or.inr ⟨c1, rfl⟩) (Or.inr ⟨c2, rfl⟩), fun i hi hip => va_up_ne _ _ hip⟩ hP hD hS
      · refine lv_aload_n hx hb d_X_fasten_69 rfl (lv_at hl 0 rfl) ?_
        refine lv_iload_n hx hb d_X_fasten_70 rfl (lv_at hl 1 rfl) ?_
        refine xp_X hx hb hts hown hK hP hD hS 0 rfl 5 (by decide) k_42 (.int (nI pl)) rfl rfl rfl (Nat.le_of_ble_eq_true rfl) d_X_fasten_71 (fun H locs hP hD hS => ?_)
        have hP : va_P D classes (ce_R cA hX h qv qb qh vl (va_up (va_up bf pl 0) fr pl) (va_up bh pl fr) pl pl n us fe) H := hP
        have hD : va_D A (ce_R cA hX h qv qb qh vl (va_up (va_up bf pl 0) fr pl) (va_up bh pl fr) pl pl n us fe) := hD
        refine lv_goto (tgt := 111) hx hb d_X_fasten_74 (by decide) ?_
        exact hret 111 _ _ _ (va_up (va_up bf pl 0) fr pl, va_up bh pl fr, pl, pl) d_X_fasten_111 ⟨by rw [show rm_mv f pl o = _ from if_neg cf]; exact rw_first hD0 hnd hz hpo (by omega) (Or.inr ⟨c1, rfl⟩) (Or.inl ⟨c2, rfl⟩), fun i hi hip => va_up_ne _ _ hip⟩ hP hD hS
set_option maxHeartbeats 4000000 in
set_option maxRecDepth 100000 in
/-- change: a value is changed -/
theorem c_X_change (l : Launch) (D : va_G) (cA : ClassId) (hX h qv qb qh hz : Nat) (vl : Nat → Int32) (bf bh : Nat → Nat) (fr bk n us fe : Nat) (pl : Nat) (v : Int32) (hpb : pl < 4097) : xm_I l D cA y_X_change b_X_change 4 ({ frames := 0, cells := 0, slots := 0, locals := 0 }) [.ref hX, .int (nI pl), .int v] (ce_R cA hX h qv qb qh vl bf bh fr bk n us fe) hz (fun (r : Int32) (_ : Unit) => r = vl pl) (fun _ : Unit => ce_R cA hX h qv qb qh (va_up vl pl v) bf bh fr bk n us fe) := by
  refine xm_I_of (by decide) (Nat.le_of_ble_eq_true rfl) ?_
  intro p e s m below meth c A Q ls hx hb hml hown hts hl hP hK hD hS hA hret
  have hown : s.vm.findClass "RecentMap" = some m.cls := hown
  have hl : lv_has ls 4 [(0, .ref hX), (1, .int (nI pl)), (2, .int v)] := hl
  refine lv_aload_n hx hb d_X_change_0 rfl (lv_at hl 0 rfl) ?_
  refine xg_X hx hb hts hown hK hP 0 rfl 1 (by decide) k_38 rfl d_X_change_1 ?_
  refine lv_iload_n hx hb d_X_change_4 rfl (lv_at hl 1 rfl) ?_
  refine xk_ald hx hb hK hP 1 rfl pl (by omega) (by decide) d_X_change_5 ?_
  refine lv_istore_n (lv' := [(3, .int (vl pl)), (0, .ref hX), (1, .int (nI pl)), (2, .int v)]) hx hb d_X_change_6 rfl hl (by decide) rfl (fun ls hl => ?_)
  refine lv_aload_n hx hb d_X_change_7 rfl (lv_at hl 1 rfl) ?_
  refine xg_X hx hb hts hown hK hP 0 rfl 1 (by decide) k_38 rfl d_X_change_8 ?_
  refine lv_iload_n hx hb d_X_change_11 rfl (lv_at hl 2 rfl) ?_
  refine lv_iload_n hx hb d_X_change_12 rfl (lv_at hl 3 rfl) ?_
  refine xk_ast hx hb hK hP hD hS 1 rfl pl v (by omega) (by decide) d_X_change_13 (fun H locs hP hD hS => ?_)
  have hP : va_P D classes (ce_R cA hX h qv qb qh (va_up vl pl v) bf bh fr bk n us fe) H := hP
  have hD : va_D A (ce_R cA hX h qv qb qh (va_up vl pl v) bf bh fr bk n us fe) := hD
  refine lv_iload_n hx hb d_X_change_14 rfl (lv_at hl 0 rfl) ?_
  exact hret 15 _ _ _ (vl pl) () d_X_change_15 rfl hP hD hS
end
section
/-! MAP: contracts (printed by gen/map.py) -/
abbrev SX : Type := (Nat → Int32) × (Nat → Nat) × (Nat → Nat) × Nat × Nat × Nat × Nat × Nat × (Nat → Int32) × (Nat → Nat) × (Nat → Nat) × Nat
set_option maxHeartbeats 4000000 in
set_option maxRecDepth 100000 in
/-- enter: a key that is not there -/
theorem c_X_enter (l : Launch) (D : va_G) (cA : ClassId) (hX h qv qb qh qk qs qg hz : Nat) (vl : Nat → Int32) (bf bh : Nat → Nat) (fr bk n us fe : Nat) (key : Nat → Int32) (sm gr : Nat → Nat) (root : Nat) (k v f : Int32) (N : Nat) (lst o fl : List Nat) (hJ : rm_J N key sm gr root bf bh fr bk n us fe lst o fl) (hno : ∀ i ∈ lst, key i ≠ k) (hN : N < 4000) : xm_I l D cA y_X_enter b_X_enter 5 ({ frames := 2, cells := 0, slots := 0, locals := 51 }) [.ref hX, .int k, .int v, .int f] (ce_X cA hX h qv qb qh qk qs qg vl bf bh fr bk n us fe key sm gr root) hz (fun (r : Int32) (u : SX) => r = 0 ∧ rm_I (N + 1) u.1 u.2.1 u.2.2.1 u.2.2.2.1 u.2.2.2.2.1 u.2.2.2.2.2.1 u.2.2.2.2.2.2.1 u.2.2.2.2.2.2.2.1 u.2.2.2.2.2.2.2.2.1 u.2.2.2.2.2.2.2.2.2.1 u.2.2.2.2.2.2.2.2.2.2.1 u.2.2.2.2.2.2.2.2.2.2.2 (sp_mv f (k, v) (rm_M key vl o))) (fun u : SX => ce_X cA hX h qv qb qh qk qs qg u.1 u.2.1 u.2.2.1 u.2.2.2.1 u.2.2.2.2.1 u.2.2.2.2.2.1 u.2.2.2.2.2.2.1 u.2.2.2.2.2.2.2.1 u.2.2.2.2.2.2.2.2.1 u.2.2.2.2.2.2.2.2.2.1 u.2.2.2.2.2.2.2.2.2.2.1 u.2.2.2.2.2.2.2.2.2.2.2) := by
  refine xm_I_of (by decide) (Nat.le_of_ble_eq_true rfl) ?_
  intro p e s m below meth c A Q ls hx hb hml hown hts hl hP hK hD hS hA hret
  have hown : s.vm.findClass "RecentMap" = some m.cls := hown
  have hl : lv_has ls 5 [(0, .ref hX), (1, .int k), (2, .int v), (3, .int f)] := hl
  obtain ⟨b1, b2, b3, b4, b5, b6, b7⟩ := rm_J_b hJ hN
  have hz := rm_J_z hJ
  refine lv_aload_n hx hb d_X_enter_0 rfl (lv_at hl 0 rfl) ?_
  refine xc_I (n := 0) (As := []) (rest := []) (wr := ce_T cA h qk qs qg key sm gr root) (wc := ce_R cA hX h qv qb qh vl bf bh fr bk n us fe) hx hb hml hown hts (c_X_place l D cA hX h qv qb qh _ vl bf bh fr bk n us fe fl hJ.2.2.1 b6) (xc_G (fun _ h => .tail _ h) (.tail _ k_68) k_69 k_2 k_13 k_70) (by decide +kernel) ⟨rfl, rfl⟩ ⟨Nat.le_of_ble_eq_true rfl, Nat.le_of_ble_eq_true rfl⟩ hK hP hD hS hA [0, 1, 2, 3] [4, 5, 6, 7] rfl rfl rfl rfl rfl (by decide) rfl rfl rfl rfl hl.1 rfl (Nat.le_of_ble_eq_true rfl) d_X_enter_1 ⟨Nat.zero_le _, Nat.zero_le _⟩ (fun r u H locs hw hP hD hS => ?_)
  obtain ⟨us1, fe1⟩ := u
  dsimp only at hw
  obtain ⟨q, rfl, hq⟩ := hw
  obtain ⟨hq0, hqN, hqo, hql, fl2, hF2, hnd2, hqf, hbd2, hqu, hus2⟩ := rm_place hJ hq
  have hP : va_P D classes (ce_X cA hX h qv qb qh qk qs qg vl bf bh fr bk n us1 fe1 key sm gr root) H := hP.sub [4, 5, 6, 7, 0, 1, 2, 3] rfl
  have hD : va_D A (ce_X cA hX h qv qb qh qk qs qg vl bf bh fr bk n us1 fe1 key sm gr root) := hD.sub [4, 5, 6, 7, 0, 1, 2, 3] (by decide) rfl
  refine lv_istore (lv' := [(4, .int (nI q)), (0, .ref hX), (1, .int k), (2, .int v), (3, .int f)]) hx hb d_X_enter_4 hl (by decide) rfl (fun ls hl => ?_)
  refine lv_aload_n hx hb d_X_enter_6 rfl (lv_at hl 1 rfl) ?_
  refine xg_X hx hb hts hown hK hP 0 rfl 0 (by decide) k_37 rfl d_X_enter_7 ?_
  refine lv_iload hx hb d_X_enter_10 (lv_at hl 0 rfl) ?_
  refine lv_iload_n hx hb d_X_enter_12 rfl (lv_at hl 2 rfl) ?_
  refine xc_V (n := 2) (As := [.int (nI q), .int k]) (rest := []) (wr := ce_R cA hX h qv qb qh vl bf bh fr bk n us1 fe1) (wc := ce_T cA h qk qs qg key sm gr root) hx hb hml hown hts (c_T_add l D cA h qk qs qg _ key sm gr root q k lst hJ.1 hq0 (by omega) hql hno) (xc_G (fun _ h => .tail _ h) (.tail _ k_71) k_72 k_73 k_14 k_74) (by decide +kernel) ⟨rfl, rfl⟩ ⟨Nat.le_of_ble_eq_true rfl, Nat.le_of_ble_eq_true rfl⟩ hK hP hD hS hA [4, 5, 6, 7] [0, 1, 2, 3] rfl rfl rfl rfl rfl (by decide) rfl rfl rfl rfl hl.1 rfl (Nat.le_of_ble_eq_true rfl) d_X_enter_13 ⟨Nat.zero_le _, Nat.zero_le _⟩ (fun u H locs hw hP hD hS => ?_)
  obtain ⟨sm1, gr1⟩ := u
  dsimp only at hw
  obtain ⟨l2, hK2, hm2⟩ := hw
  have hP : va_P D classes (ce_X cA hX h qv qb qh qk qs qg vl bf bh fr bk n us1 fe1 (va_up key q k) sm1 gr1 q) H := hP
  have hD : va_D A (ce_X cA hX h qv qb qh qk qs qg vl bf bh fr bk n us1 fe1 (va_up key q k) sm1 gr1 q) := hD
  refine lv_aload_n hx hb d_X_enter_16 rfl (lv_at hl 1 rfl) ?_
  refine xg_X hx hb hts hown hK hP 0 rfl 1 (by decide) k_38 rfl d_X_enter_17 ?_
  refine lv_iload hx hb d_X_enter_20 (lv_at hl 0 rfl) ?_
  refine lv_iload_n hx hb d_X_enter_22 rfl (lv_at hl 3 rfl) ?_
  refine xk_ast hx hb hK hP hD hS 1 rfl q v (by omega) (by decide) d_X_enter_23 (fun H locs hP hD hS => ?_)
  have hP : va_P D classes (ce_X cA hX h qv qb qh qk qs qg (va_up vl q v) bf bh fr bk n us1 fe1 (va_up key q k) sm1 gr1 q) H := hP
  have hD : va_D A (ce_X cA hX h qv qb qh qk qs qg (va_up vl q v) bf bh fr bk n us1 fe1 (va_up key q k) sm1 gr1 q) := hD
  refine lv_aload_n hx hb d_X_enter_24 rfl (lv_at hl 1 rfl) ?_
  refine lv_iload hx hb d_X_enter_25 (lv_at hl 0 rfl) ?_
  refine lv_iload_n hx hb d_X_enter_27 rfl (lv_at hl 4 rfl) ?_
  refine xc_V (n := 2) (As := [.int (nI q), .int f]) (rest := []) (wr := ce_T cA h qk qs qg (va_up key q k) sm1 gr1 q) (wc := ce_R cA hX h qv qb qh (va_up vl q v) bf bh fr bk n us1 fe1) hx hb hml hown hts (c_X_fasten l D cA hX h qv qb qh _ (va_up vl q v) bf bh fr bk n us1 fe1 q f o hJ.2.1 hz.2.2.1 b5 hq0 (by omega) hqo) (xc_G (fun _ h => .tail _ h) (.tail _ k_75) k_76 k_3 k_13 k_77) (by decide +kernel) ⟨rfl, rfl⟩ ⟨Nat.le_of_ble_eq_true rfl, Nat.le_of_ble_eq_true rfl⟩ hK hP hD hS hA [0, 1, 2, 3] [4, 5, 6, 7] rfl rfl rfl rfl rfl (by decide) rfl rfl rfl rfl hl.1 rfl (Nat.le_of_ble_eq_true rfl) d_X_enter_28 ⟨Nat.zero_le _, Nat.zero_le _⟩ (fun u H locs hw hP hD hS => ?_)
  obtain ⟨bf1, bh1, fr1, bk1⟩ := u
  dsimp only at hw
  obtain ⟨hD2, hfr2⟩ := hw
  have hP : va_P D classes (ce_X cA hX h qv qb qh qk qs qg (va_up vl q v) bf1 bh1 fr1 bk1 n us1 fe1 (va_up key q k) sm1 gr1 q) H := hP.sub [4, 5, 6, 7, 0, 1, 2, 3] rfl
  have hD : va_D A (ce_X cA hX h qv qb qh qk qs qg (va_up vl q v) bf1 bh1 fr1 bk1 n us1 fe1 (va_up key q k) sm1 gr1 q) := hD.sub [4, 5, 6, 7, 0, 1, 2, 3] (by decide) rfl
  refine lv_aload_n hx hb d_X_enter_31 rfl (lv_at hl 1 rfl) ?_
  refine lv_dup hx hb d_X_enter_32 rfl ?_
  refine xg_X hx hb hts hown hK hP 0 rfl 6 (by decide) k_43 rfl d_X_enter_33 ?_
  refine lv_iconst (v := 1) hx hb d_X_enter_36 (by decide) ?_
  refine lv_iadd hx hb d_X_enter_37 ?_
  refine xi_top (nI (n + 1)) (nI_1 _) ?_
  refine xp_X hx hb hts hown hK hP hD hS 0 rfl 6 (by decide) k_43 (.int (nI (n + 1))) rfl rfl rfl (Nat.le_of_ble_eq_true rfl) d_X_enter_38 (fun H locs hP hD hS => ?_)
  have hP : va_P D classes (ce_X cA hX h qv qb qh qk qs qg (va_up vl q v) bf1 bh1 fr1 bk1 (n + 1) us1 fe1 (va_up key q k) sm1 gr1 q) H := hP
  have hD : va_D A (ce_X cA hX h qv qb qh qk qs qg (va_up vl q v) bf1 bh1 fr1 bk1 (n + 1) us1 fe1 (va_up key q k) sm1 gr1 q) := hD
  refine lv_iconst (v := 0) hx hb d_X_enter_41 (by decide) ?_
  exact hret 42 _ _ _ 0 (va_up vl q v, bf1, bh1, fr1, bk1, n + 1, us1, fe1, va_up key q k, sm1, gr1, q) d_X_enter_42 ⟨rfl, rm_enter hJ hq0 hqo hF2 hnd2 hqf hbd2 hqu hus2 hK2 hm2 hD2 hfr2⟩ hP hD hS
set_option maxHeartbeats 4000000 in
set_option maxRecDepth 100000 in
/-- put -/
theorem c_X_put (l : Launch) (D : va_G) (cA : ClassId) (hX h qv qb qh qk qs qg hz : Nat) (vl : Nat → Int32) (bf bh : Nat → Nat) (fr bk n us fe : Nat) (key : Nat → Int32) (sm gr : Nat → Nat) (root : Nat) (k v : Int32) (N : Nat) (M : List (Int32 × Int32)) (hI : rm_I N vl bf bh fr bk n us fe key sm gr root M) (hN : N < 4000) : xm_I l D cA y_X_put b_X_put 4 ({ frames := 3, cells := 0, slots := 0, locals := 75 }) [.ref hX, .int k, .int v] (ce_X cA hX h qv qb qh qk qs qg vl bf bh fr bk n us fe key sm gr root) hz (fun (r : Int32) (u : SX) => r = sp_get k M ∧ rm_I (N + 1) u.1 u.2.1 u.2.2.1 u.2.2.2.1 u.2.2.2.2.1 u.2.2.2.2.2.1 u.2.2.2.2.2.2.1 u.2.2.2.2.2.2.2.1 u.2.2.2.2.2.2.2.2.1 u.2.2.2.2.2.2.2.2.2.1 u.2.2.2.2.2.2.2.2.2.2.1 u.2.2.2.2.2.2.2.2.2.2.2 (sp_set k v M)) (fun u : SX => ce_X cA hX h qv qb qh qk qs qg u.1 u.2.1 u.2.2.1 u.2.2.2.1 u.2.2.2.2.1 u.2.2.2.2.2.1 u.2.2.2.2.2.2.1 u.2.2.2.2.2.2.2.1 u.2.2.2.2.2.2.2.2.1 u.2.2.2.2.2.2.2.2.2.1 u.2.2.2.2.2.2.2.2.2.2.1 u.2.2.2.2.2.2.2.2.2.2.2) := by
  refine xm_I_of (by decide) (Nat.le_of_ble_eq_true rfl) ?_
  intro p e s m below meth c A Q ls hx hb hml hown hts hl hP hK hD hS hA hret
  have hown : s.vm.findClass "RecentMap" = some m.cls := hown
  have hl : lv_has ls 4 [(0, .ref hX), (1, .int k), (2, .int v)] := hl
  obtain ⟨lst, o, fl, hJ, rfl⟩ := hI
  obtain ⟨b1, b2, b3, b4, b5, b6, b7⟩ := rm_J_b hJ hN
  have hz := rm_J_z hJ
  refine lv_aload_n hx hb d_X_put_0 rfl (lv_at hl 0 rfl) ?_
  refine xg_X hx hb hts hown hK hP 0 rfl 0 (by decide) k_37 rfl d_X_put_1 ?_
  refine lv_iload_n hx hb d_X_put_4 rfl (lv_at hl 1 rfl) ?_
  refine xc_I (n := 1) (As := [.int k]) (rest := []) (wr := ce_R cA hX h qv qb qh vl bf bh fr bk n us fe) (wc := ce_T cA h qk qs qg key sm gr root) hx hb hml hown hts (c_T_find l D cA h qk qs qg _ key sm gr root k lst hJ.1) (xc_G (fun _ h => .tail _ h) (.tail _ k_58) k_59 k_60 k_14 k_61) (by decide +kernel) ⟨rfl, rfl⟩ ⟨Nat.le_of_ble_eq_true rfl, Nat.le_of_ble_eq_true rfl⟩ hK hP hD hS hA [4, 5, 6, 7] [0, 1, 2, 3] rfl rfl rfl rfl rfl (by decide) rfl rfl rfl rfl hl.1 rfl (Nat.le_of_ble_eq_true rfl) d_X_put_5 ⟨Nat.zero_le _, Nat.zero_le _⟩ (fun r u H locs hw hP hD hS => ?_)
  obtain ⟨sm1, gr1, r1⟩ := u
  dsimp only at hw
  obtain ⟨q, rfl, hT1, hq⟩ := hw
  have hJ1 := rm_J_tr hJ hT1
  have hqb : q < 4097 := by
    rcases hq with ⟨e, -⟩ | ⟨-, -, e, -⟩
    · omega
    · exact (hT1.2.2 q e).2
  have hP : va_P D classes (ce_X cA hX h qv qb qh qk qs qg vl bf bh fr bk n us fe key sm1 gr1 r1) H := hP
  have hD : va_D A (ce_X cA hX h qv qb qh qk qs qg vl bf bh fr bk n us fe key sm1 gr1 r1) := hD
  refine lv_istore_n (lv' := [(3, .int (nI q)), (0, .ref hX), (1, .int k), (2, .int v)]) hx hb d_X_put_8 rfl hl (by decide) rfl (fun ls hl => ?_)
  refine lv_iload_n hx hb d_X_put_9 rfl (lv_at hl 0 rfl) ?_
  refine xn_ifne hx hb q (by omega) (tgt := 23) d_X_put_10 (by decide) (fun c0 => ?_) (fun c0 => ?_)
  · have hq : q = r1 ∧ q ∈ lst ∧ key q = k := by
      rcases hq with ⟨e, -⟩ | ⟨-, e⟩
      · exact absurd e c0
      · exact e
    obtain ⟨hqr, hql, hqk⟩ := hq
    have hqo : q ∈ o := (hJ.2.2.2.2.2.1 q).mp hql
    obtain ⟨x, y, eo, nx, ny, hno1, hg, hrm, hhas, hset⟩ := rm_J_at (vl := vl) hJ hqo
    rw [hqk] at hg hrm hhas hset
    refine lv_aload_n hx hb d_X_put_23 rfl (lv_at hl 1 rfl) ?_
    refine lv_iload_n hx hb d_X_put_24 rfl (lv_at hl 0 rfl) ?_
    refine lv_iload_n hx hb d_X_put_25 rfl (lv_at hl 3 rfl) ?_
    refine xc_I (n := 2) (As := [.int (nI q), .int v]) (rest := []) (wr := ce_T cA h qk qs qg key sm1 gr1 r1) (wc := ce_R cA hX h qv qb qh vl bf bh fr bk n us fe) hx hb hml hown hts (c_X_change l D cA hX h qv qb qh _ vl bf bh fr bk n us fe q v hqb) (xc_G (fun _ h => .tail _ h) (.tail _ k_78) k_79 k_4 k_13 k_80) (by decide +kernel) ⟨rfl, rfl⟩ ⟨Nat.le_of_ble_eq_true rfl, Nat.le_of_ble_eq_true rfl⟩ hK hP hD hS hA [0, 1, 2, 3] [4, 5, 6, 7] rfl rfl rfl rfl rfl (by decide) rfl rfl rfl rfl hl.1 rfl (Nat.le_of_ble_eq_true rfl) d_X_put_26 ⟨Nat.zero_le _, Nat.zero_le _⟩ (fun r u H locs hw hP hD hS => ?_)
    subst hw
    have hP : va_P D classes (ce_X cA hX h qv qb qh qk qs qg (va_up vl q v) bf bh fr bk n us fe key sm1 gr1 r1) H := hP.sub [4, 5, 6, 7, 0, 1, 2, 3] rfl
    have hD : va_D A (ce_X cA hX h qv qb qh qk qs qg (va_up vl q v) bf bh fr bk n us fe key sm1 gr1 r1) := hD.sub [4, 5, 6, 7, 0, 1, 2, 3] (by decide) rfl
    exact hret 29 _ _ _ (vl q) (va_up vl q v, bf, bh, fr, bk, n, us, fe, key, sm1, gr1, r1) d_X_put_29 ⟨hg.symm, lst, o, fl, rm_J_up hJ1, hset v⟩ hP hD hS
  · have hno : ∀ i ∈ lst, key i ≠ k := by
      rcases hq with ⟨-, e⟩ | ⟨e, -⟩
      · exact e
      · exact absurd c0 e
    have hnoM : sp_no k (rm_M key vl o) := rm_no (fun i hi => hno i ((hJ.2.2.2.2.2.1 i).mpr hi))
    have so := sp_out _ hnoM
    refine lv_aload_n hx hb d_X_put_13 rfl (lv_at hl 1 rfl) ?_
    refine lv_iload_n hx hb d_X_put_14 rfl (lv_at hl 2 rfl) ?_
    refine lv_iload_n hx hb d_X_put_15 rfl (lv_at hl 3 rfl) ?_
    refine lv_iconst (v := 0) hx hb d_X_put_16 (by decide) ?_
    refine xc_I (n := 3) (As := [.int k, .int v, .int 0]) (rest := []) (wr := []) (wc := ce_X cA hX h qv qb qh qk qs qg vl bf bh fr bk n us fe key sm1 gr1 r1) hx hb hml hown hts (c_X_enter l D cA hX h qv qb qh qk qs qg _ vl bf bh fr bk n us fe key sm1 gr1 r1 k v 0 N lst o fl hJ1 hno hN) (xc_G (fun _ h => .tail _ h) (.tail _ k_65) k_66 k_1 k_13 k_67) (by decide +kernel) ⟨rfl, rfl⟩ ⟨Nat.le_of_ble_eq_true rfl, Nat.le_of_ble_eq_true rfl⟩ hK hP hD hS hA [0, 1, 2, 3, 4, 5, 6, 7] [] rfl rfl rfl rfl rfl (by decide) rfl rfl rfl rfl hl.1 rfl (Nat.le_of_ble_eq_true rfl) d_X_put_17 ⟨Nat.zero_le _, Nat.zero_le _⟩ (fun r u H locs hw hP hD hS => ?_)
    obtain ⟨vl2, bf2, bh2, fr2, bk2, n2, us2, fe2, key2, sm2, gr2, root2⟩ := u
    dsimp only at hw
    obtain ⟨rfl, hI2⟩ := hw
    have hP : va_P D classes (ce_X cA hX h qv qb qh qk qs qg vl2 bf2 bh2 fr2 bk2 n2 us2 fe2 key2 sm2 gr2 root2) H := hP
    have hD : va_D A (ce_X cA hX h qv qb qh qk qs qg vl2 bf2 bh2 fr2 bk2 n2 us2 fe2 key2 sm2 gr2 root2) := hD
    refine lv_goto (tgt := 29) hx hb d_X_put_20 (by decide) ?_
    exact hret 29 _ _ _ 0 (vl2, bf2, bh2, fr2, bk2, n2, us2, fe2, key2, sm2, gr2, root2) d_X_put_29 ⟨so.1.symm, by rw [so.2.2 v]; rw [show sp_mv 0 (k, v) (rm_M key vl o) = rm_M key vl o ++ [(k, v)] from if_pos rfl] at hI2; exact hI2⟩ hP hD hS
set_option maxHeartbeats 4000000 in
set_option maxRecDepth 100000 in
/-- puts -/
theorem c_X_puts (l : Launch) (D : va_G) (cA : ClassId) (hX h qv qb qh qk qs qg hz : Nat) (vl : Nat → Int32) (bf bh : Nat → Nat) (fr bk n us fe : Nat) (key : Nat → Int32) (sm gr : Nat → Nat) (root : Nat) (k v f : Int32) (N : Nat) (M : List (Int32 × Int32)) (hI : rm_I N vl bf bh fr bk n us fe key sm gr root M) (hN : N < 4000) : xm_I l D cA y_X_puts b_X_puts 5 ({ frames := 3, cells := 0, slots := 0, locals := 75 }) [.ref hX, .int k, .int v, .int f] (ce_X cA hX h qv qb qh qk qs qg vl bf bh fr bk n us fe key sm gr root) hz (fun (r : Int32) (u : SX) => r = sp_get k M ∧ rm_I (N + 1) u.1 u.2.1 u.2.2.1 u.2.2.2.1 u.2.2.2.2.1 u.2.2.2.2.2.1 u.2.2.2.2.2.2.1 u.2.2.2.2.2.2.2.1 u.2.2.2.2.2.2.2.2.1 u.2.2.2.2.2.2.2.2.2.1 u.2.2.2.2.2.2.2.2.2.2.1 u.2.2.2.2.2.2.2.2.2.2.2 (sp_mv f (k, v) (sp_rm k M))) (fun u : SX => ce_X cA hX h qv qb qh qk qs qg u.1 u.2.1 u.2.2.1 u.2.2.2.1 u.2.2.2.2.1 u.2.2.2.2.2.1 u.2.2.2.2.2.2.1 u.2.2.2.2.2.2.2.1 u.2.2.2.2.2.2.2.2.1 u.2.2.2.2.2.2.2.2.2.1 u.2.2.2.2.2.2.2.2.2.2.1 u.2.2.2.2.2.2.2.2.2.2.2) := by
  refine xm_I_of (by decide) (Nat.le_of_ble_eq_true rfl) ?_
  intro p e s m below meth c A Q ls hx hb hml hown hts hl hP hK hD hS hA hret
  have hown : s.vm.findClass "RecentMap" = some m.cls := hown
  have hl : lv_has ls 5 [(0, .ref hX), (1, .int k), (2, .int v), (3, .int f)] := hl
  obtain ⟨lst, o, fl, hJ, rfl⟩ := hI
  obtain ⟨b1, b2, b3, b4, b5, b6, b7⟩ := rm_J_b hJ hN
  have hz := rm_J_z hJ
  refine lv_aload_n hx hb d_X_puts_0 rfl (lv_at hl 0 rfl) ?_
  refine xg_X hx hb hts hown hK hP 0 rfl 0 (by decide) k_37 rfl d_X_puts_1 ?_
  refine lv_iload_n hx hb d_X_puts_4 rfl (lv_at hl 1 rfl) ?_
  refine xc_I (n := 1) (As := [.int k]) (rest := []) (wr := ce_R cA hX h qv qb qh vl bf bh fr bk n us fe) (wc := ce_T cA h qk qs qg key sm gr root) hx hb hml hown hts (c_T_find l D cA h qk qs qg _ key sm gr root k lst hJ.1) (xc_G (fun _ h => .tail _ h) (.tail _ k_58) k_59 k_60 k_14 k_61) (by decide +kernel) ⟨rfl, rfl⟩ ⟨Nat.le_of_ble_eq_true rfl, Nat.le_of_ble_eq_true rfl⟩ hK hP hD hS hA [4, 5, 6, 7] [0, 1, 2, 3] rfl rfl rfl rfl rfl (by decide) rfl rfl rfl rfl hl.1 rfl (Nat.le_of_ble_eq_true rfl) d_X_puts_5 ⟨Nat.zero_le _, Nat.zero_le _⟩ (fun r u H locs hw hP hD hS => ?_)
  obtain ⟨sm1, gr1, r1⟩ := u
  dsimp only at hw
  obtain ⟨q, rfl, hT1, hq⟩ := hw
  have hJ1 := rm_J_tr hJ hT1
  have hqb : q < 4097 := by
    rcases hq with ⟨e, -⟩ | ⟨-, -, e, -⟩
    · omega
    · exact (hT1.2.2 q e).2
  have hP : va_P D classes (ce_X cA hX h qv qb qh qk qs qg vl bf bh fr bk n us fe key sm1 gr1 r1) H := hP
  have hD : va_D A (ce_X cA hX h qv qb qh qk qs qg vl bf bh fr bk n us fe key sm1 gr1 r1) := hD
  refine lv_istore (lv' := [(4, .int (nI q)), (0, .ref hX), (1, .int k), (2, .int v), (3, .int f)]) hx hb d_X_puts_8 hl (by decide) rfl (fun ls hl => ?_)
  refine lv_iload hx hb d_X_puts_10 (lv_at hl 0 rfl) ?_
  refine xn_ifne hx hb q (by omega) (tgt := 23) d_X_puts_12 (by decide) (fun c0 => ?_) (fun c0 => ?_)
  · have hq : q = r1 ∧ q ∈ lst ∧ key q = k := by
      rcases hq with ⟨e, -⟩ | ⟨-, e⟩
      · exact absurd e c0
      · exact e
    obtain ⟨hqr, hql, hqk⟩ := hq
    have hqo : q ∈ o := (hJ.2.2.2.2.2.1 q).mp hql
    obtain ⟨x, y, eo, nx, ny, hno1, hg, hrm, hhas, hset⟩ := rm_J_at (vl := vl) hJ hqo
    rw [hqk] at hg hrm hhas hset
    subst eo
    have hnd := hz.2.2.1
    have hnd2 := rm_nd hnd
    refine lv_aload_n hx hb d_X_puts_23 rfl (lv_at hl 1 rfl) ?_
    refine lv_iload hx hb d_X_puts_24 (lv_at hl 0 rfl) ?_
    refine xc_V (n := 1) (As := [.int (nI q)]) (rest := []) (wr := ce_T cA h qk qs qg key sm1 gr1 r1) (wc := ce_R cA hX h qv qb qh vl bf bh fr bk n us fe) hx hb hml hown hts (c_X_loose l D cA hX h qv qb qh _ vl bf bh fr bk n us fe q x y hJ.2.1 hnd b5) (xc_G (fun _ h => .tail _ h) (.tail _ k_87) k_88 k_6 k_13 k_89) (by decide +kernel) ⟨rfl, rfl⟩ ⟨Nat.le_of_ble_eq_true rfl, Nat.le_of_ble_eq_true rfl⟩ hK hP hD hS hA [0, 1, 2, 3] [4, 5, 6, 7] rfl rfl rfl rfl rfl (by decide) rfl rfl rfl rfl hl.1 rfl (Nat.le_of_ble_eq_true rfl) d_X_puts_26 ⟨Nat.zero_le _, Nat.zero_le _⟩ (fun u H locs hw hP hD hS => ?_)
    obtain ⟨bf1, bh1, fr1, bk1⟩ := u
    dsimp only at hw
    obtain ⟨hD1, hf1⟩ := hw
    have hP : va_P D classes (ce_X cA hX h qv qb qh qk qs qg vl bf1 bh1 fr1 bk1 n us fe key sm1 gr1 r1) H := hP.sub [4, 5, 6, 7, 0, 1, 2, 3] rfl
    have hD : va_D A (ce_X cA hX h qv qb qh qk qs qg vl bf1 bh1 fr1 bk1 n us fe key sm1 gr1 r1) := hD.sub [4, 5, 6, 7, 0, 1, 2, 3] (by decide) rfl
    refine lv_aload_n hx hb d_X_puts_29 rfl (lv_at hl 1 rfl) ?_
    refine lv_iload hx hb d_X_puts_30 (lv_at hl 0 rfl) ?_
    refine lv_iload_n hx hb d_X_puts_32 rfl (lv_at hl 4 rfl) ?_
    refine xc_V (n := 2) (As := [.int (nI q), .int f]) (rest := []) (wr := ce_T cA h qk qs qg key sm1 gr1 r1) (wc := ce_R cA hX h qv qb qh vl bf1 bh1 fr1 bk1 n us fe) hx hb hml hown hts (c_X_fasten l D cA hX h qv qb qh _ vl bf1 bh1 fr1 bk1 n us fe q f (x ++ y) hD1 hnd2.1 (fun i hi => b5 i (by simp at hi ⊢; grind)) (b5 q (by simp)).1 hqb hnd2.2) (xc_G (fun _ h => .tail _ h) (.tail _ k_75) k_76 k_3 k_13 k_77) (by decide +kernel) ⟨rfl, rfl⟩ ⟨Nat.le_of_ble_eq_true rfl, Nat.le_of_ble_eq_true rfl⟩ hK hP hD hS hA [0, 1, 2, 3] [4, 5, 6, 7] rfl rfl rfl rfl rfl (by decide) rfl rfl rfl rfl hl.1 rfl (Nat.le_of_ble_eq_true rfl) d_X_puts_33 ⟨Nat.zero_le _, Nat.zero_le _⟩ (fun u H locs hw hP hD hS => ?_)
    obtain ⟨bf2, bh2, fr2, bk2⟩ := u
    dsimp only at hw
    obtain ⟨hD2, hf2⟩ := hw
    have hJ2 := rm_move hJ hT1 hf1 hD2 hf2
    have hP : va_P D classes (ce_X cA hX h qv qb qh qk qs qg vl bf2 bh2 fr2 bk2 n us fe key sm1 gr1 r1) H := hP.sub [4, 5, 6, 7, 0, 1, 2, 3] rfl
    have hD : va_D A (ce_X cA hX h qv qb qh qk qs qg vl bf2 bh2 fr2 bk2 n us fe key sm1 gr1 r1) := hD.sub [4, 5, 6, 7, 0, 1, 2, 3] (by decide) rfl
    refine lv_aload_n hx hb d_X_puts_36 rfl (lv_at hl 1 rfl) ?_
    refine lv_iload hx hb d_X_puts_37 (lv_at hl 0 rfl) ?_
    refine lv_iload_n hx hb d_X_puts_39 rfl (lv_at hl 3 rfl) ?_
    refine xc_I (n := 2) (As := [.int (nI q), .int v]) (rest := []) (wr := ce_T cA h qk qs qg key sm1 gr1 r1) (wc := ce_R cA hX h qv qb qh vl bf2 bh2 fr2 bk2 n us fe) hx hb hml hown hts (c_X_change l D cA hX h qv qb qh _ vl bf2 bh2 fr2 bk2 n us fe q v hqb) (xc_G (fun _ h => .tail _ h) (.tail _ k_78) k_79 k_4 k_13 k_80) (by decide +kernel) ⟨rfl, rfl⟩ ⟨Nat.le_of_ble_eq_true rfl, Nat.le_of_ble_eq_true rfl⟩ hK hP hD hS hA [0, 1, 2, 3] [4, 5, 6, 7] rfl rfl rfl rfl rfl (by decide) rfl rfl rfl rfl hl.1 rfl (Nat.le_of_ble_eq_true rfl) d_X_puts_40 ⟨Nat.zero_le _, Nat.zero_le _⟩ (fun r u H locs hw hP hD hS => ?_)
    subst hw
    have hP : va_P D classes (ce_X cA hX h qv qb qh qk qs qg (va_up vl q v) bf2 bh2 fr2 bk2 n us fe key sm1 gr1 r1) H := hP.sub [4, 5, 6, 7, 0, 1, 2, 3] rfl
    have hD : va_D A (ce_X cA hX h qv qb qh qk qs qg (va_up vl q v) bf2 bh2 fr2 bk2 n us fe key sm1 gr1 r1) := hD.sub [4, 5, 6, 7, 0, 1, 2, 3] (by decide) rfl
    exact hret 43 _ _ _ (vl q) (va_up vl q v, bf2, bh2, fr2, bk2, n, us, fe, key, sm1, gr1, r1) d_X_puts_43 ⟨hg.symm, lst, _, fl, rm_J_up hJ2, by
          rw [hrm]
          exact (rm_mv_M hqk (va_up_self _ _ _) (fun i hi => ⟨rfl, va_up_ne _ _ (fun c => hnd2.2 (c ▸ hi))⟩)).symm⟩ hP hD hS
  · have hno : ∀ i ∈ lst, key i ≠ k := by
      rcases hq with ⟨-, e⟩ | ⟨e, -⟩
      · exact e
      · exact absurd c0 e
    have hnoM : sp_no k (rm_M key vl o) := rm_no (fun i hi => hno i ((hJ.2.2.2.2.2.1 i).mpr hi))
    have so := sp_out _ hnoM
    refine lv_aload_n hx hb d_X_puts_15 rfl (lv_at hl 1 rfl) ?_
    refine lv_iload_n hx hb d_X_puts_16 rfl (lv_at hl 2 rfl) ?_
    refine lv_iload_n hx hb d_X_puts_17 rfl (lv_at hl 3 rfl) ?_
    refine lv_iload_n hx hb d_X_puts_18 rfl (lv_at hl 4 rfl) ?_
    refine xc_I (n := 3) (As := [.int k, .int v, .int f]) (rest := []) (wr := []) (wc := ce_X cA hX h qv qb qh qk qs qg vl bf bh fr bk n us fe key sm1 gr1 r1) hx hb hml hown hts (c_X_enter l D cA hX h qv qb qh qk qs qg _ vl bf bh fr bk n us fe key sm1 gr1 r1 k v f N lst o fl hJ1 hno hN) (xc_G (fun _ h => .tail _ h) (.tail _ k_65) k_66 k_1 k_13 k_67) (by decide +kernel) ⟨rfl, rfl⟩ ⟨Nat.le_of_ble_eq_true rfl, Nat.le_of_ble_eq_true rfl⟩ hK hP hD hS hA [0, 1, 2, 3, 4, 5, 6, 7] [] rfl rfl rfl rfl rfl (by decide) rfl rfl rfl rfl hl.1 rfl (Nat.le_of_ble_eq_true rfl) d_X_puts_19 ⟨Nat.zero_le _, Nat.zero_le _⟩ (fun r u H locs hw hP hD hS => ?_)
    obtain ⟨vl2, bf2, bh2, fr2, bk2, n2, us2, fe2, key2, sm2, gr2, root2⟩ := u
    dsimp only at hw
    obtain ⟨rfl, hI2⟩ := hw
    have hP : va_P D classes (ce_X cA hX h qv qb qh qk qs qg vl2 bf2 bh2 fr2 bk2 n2 us2 fe2 key2 sm2 gr2 root2) H := hP
    have hD : va_D A (ce_X cA hX h qv qb qh qk qs qg vl2 bf2 bh2 fr2 bk2 n2 us2 fe2 key2 sm2 gr2 root2) := hD
    exact hret 22 _ _ _ 0 (vl2, bf2, bh2, fr2, bk2, n2, us2, fe2, key2, sm2, gr2, root2) d_X_puts_22 ⟨so.1.symm, by rw [so.2.1]; exact hI2⟩ hP hD hS
set_option maxHeartbeats 4000000 in
set_option maxRecDepth 100000 in
/-- touch -/
theorem c_X_touch (l : Launch) (D : va_G) (cA : ClassId) (hX h qv qb qh qk qs qg hz : Nat) (vl : Nat → Int32) (bf bh : Nat → Nat) (fr bk n us fe : Nat) (key : Nat → Int32) (sm gr : Nat → Nat) (root : Nat) (k f : Int32) (N : Nat) (M : List (Int32 × Int32)) (hI : rm_I N vl bf bh fr bk n us fe key sm gr root M) (hN : N < 4000) : xm_I l D cA y_X_touch b_X_touch 4 ({ frames := 2, cells := 0, slots := 0, locals := 50 }) [.ref hX, .int k, .int f] (ce_X cA hX h qv qb qh qk qs qg vl bf bh fr bk n us fe key sm gr root) hz (fun (r : Int32) (u : SX) => r = sp_get k M ∧ rm_I (N + 1) u.1 u.2.1 u.2.2.1 u.2.2.2.1 u.2.2.2.2.1 u.2.2.2.2.2.1 u.2.2.2.2.2.2.1 u.2.2.2.2.2.2.2.1 u.2.2.2.2.2.2.2.2.1 u.2.2.2.2.2.2.2.2.2.1 u.2.2.2.2.2.2.2.2.2.2.1 u.2.2.2.2.2.2.2.2.2.2.2 (sp_tch f k M)) (fun u : SX => ce_X cA hX h qv qb qh qk qs qg u.1 u.2.1 u.2.2.1 u.2.2.2.1 u.2.2.2.2.1 u.2.2.2.2.2.1 u.2.2.2.2.2.2.1 u.2.2.2.2.2.2.2.1 u.2.2.2.2.2.2.2.2.1 u.2.2.2.2.2.2.2.2.2.1 u.2.2.2.2.2.2.2.2.2.2.1 u.2.2.2.2.2.2.2.2.2.2.2) := by
  refine xm_I_of (by decide) (Nat.le_of_ble_eq_true rfl) ?_
  intro p e s m below meth c A Q ls hx hb hml hown hts hl hP hK hD hS hA hret
  have hown : s.vm.findClass "RecentMap" = some m.cls := hown
  have hl : lv_has ls 4 [(0, .ref hX), (1, .int k), (2, .int f)] := hl
  obtain ⟨lst, o, fl, hJ, rfl⟩ := hI
  obtain ⟨b1, b2, b3, b4, b5, b6, b7⟩ := rm_J_b hJ hN
  have hz := rm_J_z hJ
  refine lv_aload_n hx hb d_X_touch_0 rfl (lv_at hl 0 rfl) ?_
  refine xg_X hx hb hts hown hK hP 0 rfl 0 (by decide) k_37 rfl d_X_touch_1 ?_
  refine lv_iload_n hx hb d_X_touch_4 rfl (lv_at hl 1 rfl) ?_
  refine xc_I (n := 1) (As := [.int k]) (rest := []) (wr := ce_R cA hX h qv qb qh vl bf bh fr bk n us fe) (wc := ce_T cA h qk qs qg key sm gr root) hx hb hml hown hts (c_T_find l D cA h qk qs qg _ key sm gr root k lst hJ.1) (xc_G (fun _ h => .tail _ h) (.tail _ k_58) k_59 k_60 k_14 k_61) (by decide +kernel) ⟨rfl, rfl⟩ ⟨Nat.le_of_ble_eq_true rfl, Nat.le_of_ble_eq_true rfl⟩ hK hP hD hS hA [4, 5, 6, 7] [0, 1, 2, 3] rfl rfl rfl rfl rfl (by decide) rfl rfl rfl rfl hl.1 rfl (Nat.le_of_ble_eq_true rfl) d_X_touch_5 ⟨Nat.zero_le _, Nat.zero_le _⟩ (fun r u H locs hw hP hD hS => ?_)
  obtain ⟨sm1, gr1, r1⟩ := u
  dsimp only at hw
  obtain ⟨q, rfl, hT1, hq⟩ := hw
  have hJ1 := rm_J_tr hJ hT1
  have hqb : q < 4097 := by
    rcases hq with ⟨e, -⟩ | ⟨-, -, e, -⟩
    · omega
    · exact (hT1.2.2 q e).2
  have hP : va_P D classes (ce_X cA hX h qv qb qh qk qs qg vl bf bh fr bk n us fe key sm1 gr1 r1) H := hP
  have hD : va_D A (ce_X cA hX h qv qb qh qk qs qg vl bf bh fr bk n us fe key sm1 gr1 r1) := hD
  refine lv_istore_n (lv' := [(3, .int (nI q)), (0, .ref hX), (1, .int k), (2, .int f)]) hx hb d_X_touch_8 rfl hl (by decide) rfl (fun ls hl => ?_)
  refine lv_iload_n hx hb d_X_touch_9 rfl (lv_at hl 0 rfl) ?_
  refine xn_ifne hx hb q (by omega) (tgt := 15) d_X_touch_10 (by decide) (fun c0 => ?_) (fun c0 => ?_)
  · have hq : q = r1 ∧ q ∈ lst ∧ key q = k := by
      rcases hq with ⟨e, -⟩ | ⟨-, e⟩
      · exact absurd e c0
      · exact e
    obtain ⟨hqr, hql, hqk⟩ := hq
    have hqo : q ∈ o := (hJ.2.2.2.2.2.1 q).mp hql
    obtain ⟨x, y, eo, nx, ny, hno1, hg, hrm, hhas, hset⟩ := rm_J_at (vl := vl) hJ hqo
    rw [hqk] at hg hrm hhas hset
    subst eo
    have hnd := hz.2.2.1
    have hnd2 := rm_nd hnd
    refine lv_aload_n hx hb d_X_touch_15 rfl (lv_at hl 1 rfl) ?_
    refine lv_iload_n hx hb d_X_touch_16 rfl (lv_at hl 0 rfl) ?_
    refine xc_V (n := 1) (As := [.int (nI q)]) (rest := []) (wr := ce_T cA h qk qs qg key sm1 gr1 r1) (wc := ce_R cA hX h qv qb qh vl bf bh fr bk n us fe) hx hb hml hown hts (c_X_loose l D cA hX h qv qb qh _ vl bf bh fr bk n us fe q x y hJ.2.1 hnd b5) (xc_G (fun _ h => .tail _ h) (.tail _ k_87) k_88 k_6 k_13 k_89) (by decide +kernel) ⟨rfl, rfl⟩ ⟨Nat.le_of_ble_eq_true rfl, Nat.le_of_ble_eq_true rfl⟩ hK hP hD hS hA [0, 1, 2, 3] [4, 5, 6, 7] rfl rfl rfl rfl rfl (by decide) rfl rfl rfl rfl hl.1 rfl (Nat.le_of_ble_eq_true rfl) d_X_touch_17 ⟨Nat.zero_le _, Nat.zero_le _⟩ (fun u H locs hw hP hD hS => ?_)
    obtain ⟨bf1, bh1, fr1, bk1⟩ := u
    dsimp only at hw
    obtain ⟨hD1, hf1⟩ := hw
    have hP : va_P D classes (ce_X cA hX h qv qb qh qk qs qg vl bf1 bh1 fr1 bk1 n us fe key sm1 gr1 r1) H := hP.sub [4, 5, 6, 7, 0, 1, 2, 3] rfl
    have hD : va_D A (ce_X cA hX h qv qb qh qk qs qg vl bf1 bh1 fr1 bk1 n us fe key sm1 gr1 r1) := hD.sub [4, 5, 6, 7, 0, 1, 2, 3] (by decide) rfl
    refine lv_aload_n hx hb d_X_touch_20 rfl (lv_at hl 1 rfl) ?_
    refine lv_iload_n hx hb d_X_touch_21 rfl (lv_at hl 0 rfl) ?_
    refine lv_iload_n hx hb d_X_touch_22 rfl (lv_at hl 3 rfl) ?_
    refine xc_V (n := 2) (As := [.int (nI q), .int f]) (rest := []) (wr := ce_T cA h qk qs qg key sm1 gr1 r1) (wc := ce_R cA hX h qv qb qh vl bf1 bh1 fr1 bk1 n us fe) hx hb hml hown hts (c_X_fasten l D cA hX h qv qb qh _ vl bf1 bh1 fr1 bk1 n us fe q f (x ++ y) hD1 hnd2.1 (fun i hi => b5 i (by simp at hi ⊢; grind)) (b5 q (by simp)).1 hqb hnd2.2) (xc_G (fun _ h => .tail _ h) (.tail _ k_75) k_76 k_3 k_13 k_77) (by decide +kernel) ⟨rfl, rfl⟩ ⟨Nat.le_of_ble_eq_true rfl, Nat.le_of_ble_eq_true rfl⟩ hK hP hD hS hA [0, 1, 2, 3] [4, 5, 6, 7] rfl rfl rfl rfl rfl (by decide) rfl rfl rfl rfl hl.1 rfl (Nat.le_of_ble_eq_true rfl) d_X_touch_23 ⟨Nat.zero_le _, Nat.zero_le _⟩ (fun u H locs hw hP hD hS => ?_)
    obtain ⟨bf2, bh2, fr2, bk2⟩ := u
    dsimp only at hw
    obtain ⟨hD2, hf2⟩ := hw
    have hJ2 := rm_move hJ hT1 hf1 hD2 hf2
    have hP : va_P D classes (ce_X cA hX h qv qb qh qk qs qg vl bf2 bh2 fr2 bk2 n us fe key sm1 gr1 r1) H := hP.sub [4, 5, 6, 7, 0, 1, 2, 3] rfl
    have hD : va_D A (ce_X cA hX h qv qb qh qk qs qg vl bf2 bh2 fr2 bk2 n us fe key sm1 gr1 r1) := hD.sub [4, 5, 6, 7, 0, 1, 2, 3] (by decide) rfl
    refine lv_aload_n hx hb d_X_touch_26 rfl (lv_at hl 1 rfl) ?_
    refine xg_X hx hb hts hown hK hP 0 rfl 1 (by decide) k_38 rfl d_X_touch_27 ?_
    refine lv_iload_n hx hb d_X_touch_30 rfl (lv_at hl 0 rfl) ?_
    refine xk_ald hx hb hK hP 1 rfl q (by omega) (by decide) d_X_touch_31 ?_
    exact hret 32 _ _ _ (vl q) (vl, bf2, bh2, fr2, bk2, n, us, fe, key, sm1, gr1, r1) d_X_touch_32 ⟨hg.symm, lst, _, fl, rm_J_up hJ2, by
          unfold sp_tch
          rw [if_pos hhas, hrm, hg]
          exact (rm_mv_M hqk rfl (fun i hi => ⟨rfl, rfl⟩)).symm⟩ hP hD hS
  · have hno : ∀ i ∈ lst, key i ≠ k := by
      rcases hq with ⟨-, e⟩ | ⟨e, -⟩
      · exact e
      · exact absurd c0 e
    have hnoM : sp_no k (rm_M key vl o) := rm_no (fun i hi => hno i ((hJ.2.2.2.2.2.1 i).mpr hi))
    have so := sp_out _ hnoM
    refine lv_iconst (v := 0) hx hb d_X_touch_13 (by decide) ?_
    exact hret 14 _ _ _ 0 (vl, bf, bh, fr, bk, n, us, fe, key, sm1, gr1, r1) d_X_touch_14 ⟨so.1.symm, lst, o, fl, rm_J_up hJ1, by
          unfold sp_tch
          rw [if_neg (by rw [sp_has_no _ hnoM]; decide)]⟩ hP hD hS
set_option maxHeartbeats 4000000 in
set_option maxRecDepth 100000 in
/-- get -/
theorem c_X_get (l : Launch) (D : va_G) (cA : ClassId) (hX h qv qb qh qk qs qg hz : Nat) (vl : Nat → Int32) (bf bh : Nat → Nat) (fr bk n us fe : Nat) (key : Nat → Int32) (sm gr : Nat → Nat) (root : Nat) (k : Int32) (N : Nat) (M : List (Int32 × Int32)) (hI : rm_I N vl bf bh fr bk n us fe key sm gr root M) (hN : N < 4000) : xm_I l D cA y_X_get b_X_get 3 ({ frames := 2, cells := 0, slots := 0, locals := 50 }) [.ref hX, .int k] (ce_X cA hX h qv qb qh qk qs qg vl bf bh fr bk n us fe key sm gr root) hz (fun (r : Int32) (u : SX) => r = sp_get k M ∧ rm_I (N + 1) u.1 u.2.1 u.2.2.1 u.2.2.2.1 u.2.2.2.2.1 u.2.2.2.2.2.1 u.2.2.2.2.2.2.1 u.2.2.2.2.2.2.2.1 u.2.2.2.2.2.2.2.2.1 u.2.2.2.2.2.2.2.2.2.1 u.2.2.2.2.2.2.2.2.2.2.1 u.2.2.2.2.2.2.2.2.2.2.2 M) (fun u : SX => ce_X cA hX h qv qb qh qk qs qg u.1 u.2.1 u.2.2.1 u.2.2.2.1 u.2.2.2.2.1 u.2.2.2.2.2.1 u.2.2.2.2.2.2.1 u.2.2.2.2.2.2.2.1 u.2.2.2.2.2.2.2.2.1 u.2.2.2.2.2.2.2.2.2.1 u.2.2.2.2.2.2.2.2.2.2.1 u.2.2.2.2.2.2.2.2.2.2.2) := by
  refine xm_I_of (by decide) (Nat.le_of_ble_eq_true rfl) ?_
  intro p e s m below meth c A Q ls hx hb hml hown hts hl hP hK hD hS hA hret
  have hown : s.vm.findClass "RecentMap" = some m.cls := hown
  have hl : lv_has ls 3 [(0, .ref hX), (1, .int k)] := hl
  obtain ⟨lst, o, fl, hJ, rfl⟩ := hI
  obtain ⟨b1, b2, b3, b4, b5, b6, b7⟩ := rm_J_b hJ hN
  have hz := rm_J_z hJ
  refine lv_aload_n hx hb d_X_get_0 rfl (lv_at hl 0 rfl) ?_
  refine xg_X hx hb hts hown hK hP 0 rfl 0 (by decide) k_37 rfl d_X_get_1 ?_
  refine lv_iload_n hx hb d_X_get_4 rfl (lv_at hl 1 rfl) ?_
  refine xc_I (n := 1) (As := [.int k]) (rest := []) (wr := ce_R cA hX h qv qb qh vl bf bh fr bk n us fe) (wc := ce_T cA h qk qs qg key sm gr root) hx hb hml hown hts (c_T_find l D cA h qk qs qg _ key sm gr root k lst hJ.1) (xc_G (fun _ h => .tail _ h) (.tail _ k_58) k_59 k_60 k_14 k_61) (by decide +kernel) ⟨rfl, rfl⟩ ⟨Nat.le_of_ble_eq_true rfl, Nat.le_of_ble_eq_true rfl⟩ hK hP hD hS hA [4, 5, 6, 7] [0, 1, 2, 3] rfl rfl rfl rfl rfl (by decide) rfl rfl rfl rfl hl.1 rfl (Nat.le_of_ble_eq_true rfl) d_X_get_5 ⟨Nat.zero_le _, Nat.zero_le _⟩ (fun r u H locs hw hP hD hS => ?_)
  obtain ⟨sm1, gr1, r1⟩ := u
  dsimp only at hw
  obtain ⟨q, rfl, hT1, hq⟩ := hw
  have hJ1 := rm_J_tr hJ hT1
  have hqb : q < 4097 := by
    rcases hq with ⟨e, -⟩ | ⟨-, -, e, -⟩
    · omega
    · exact (hT1.2.2 q e).2
  have hP : va_P D classes (ce_X cA hX h qv qb qh qk qs qg vl bf bh fr bk n us fe key sm1 gr1 r1) H := hP
  have hD : va_D A (ce_X cA hX h qv qb qh qk qs qg vl bf bh fr bk n us fe key sm1 gr1 r1) := hD
  refine lv_istore_n (lv' := [(2, .int (nI q)), (0, .ref hX), (1, .int k)]) hx hb d_X_get_8 rfl hl (by decide) rfl (fun ls hl => ?_)
  refine lv_iload_n hx hb d_X_get_9 rfl (lv_at hl 0 rfl) ?_
  refine xn_ifne hx hb q (by omega) (tgt := 17) d_X_get_10 (by decide) (fun c0 => ?_) (fun c0 => ?_)
  · have hq : q = r1 ∧ q ∈ lst ∧ key q = k := by
      rcases hq with ⟨e, -⟩ | ⟨-, e⟩
      · exact absurd e c0
      · exact e
    obtain ⟨hqr, hql, hqk⟩ := hq
    have hqo : q ∈ o := (hJ.2.2.2.2.2.1 q).mp hql
    obtain ⟨x, y, eo, nx, ny, hno1, hg, hrm, hhas, hset⟩ := rm_J_at (vl := vl) hJ hqo
    rw [hqk] at hg hrm hhas hset
    refine lv_aload_n hx hb d_X_get_17 rfl (lv_at hl 1 rfl) ?_
    refine xg_X hx hb hts hown hK hP 0 rfl 1 (by decide) k_38 rfl d_X_get_18 ?_
    refine lv_iload_n hx hb d_X_get_21 rfl (lv_at hl 0 rfl) ?_
    refine xk_ald hx hb hK hP 1 rfl q (by omega) (by decide) d_X_get_22 ?_
    exact hret 23 _ _ _ (vl q) (vl, bf, bh, fr, bk, n, us, fe, key, sm1, gr1, r1) d_X_get_23 ⟨hg.symm, lst, o, fl, rm_J_up hJ1, rfl⟩ hP hD hS
  · have hno : ∀ i ∈ lst, key i ≠ k := by
      rcases hq with ⟨-, e⟩ | ⟨e, -⟩
      · exact e
      · exact absurd c0 e
    have hnoM : sp_no k (rm_M key vl o) := rm_no (fun i hi => hno i ((hJ.2.2.2.2.2.1 i).mpr hi))
    have so := sp_out _ hnoM
    refine lv_iconst (v := 0) hx hb d_X_get_13 (by decide) ?_
    refine lv_goto (tgt := 23) hx hb d_X_get_14 (by decide) ?_
    exact hret 23 _ _ _ 0 (vl, bf, bh, fr, bk, n, us, fe, key, sm1, gr1, r1) d_X_get_23 ⟨so.1.symm, lst, o, fl, rm_J_up hJ1, rfl⟩ hP hD hS
set_option maxHeartbeats 4000000 in
set_option maxRecDepth 100000 in
/-- remove -/
theorem c_X_remove (l : Launch) (D : va_G) (cA : ClassId) (hX h qv qb qh qk qs qg hz : Nat) (vl : Nat → Int32) (bf bh : Nat → Nat) (fr bk n us fe : Nat) (key : Nat → Int32) (sm gr : Nat → Nat) (root : Nat) (k : Int32) (N : Nat) (M : List (Int32 × Int32)) (hI : rm_I N vl bf bh fr bk n us fe key sm gr root M) (hN : N < 4000) : xm_I l D cA y_X_remove b_X_remove 3 ({ frames := 2, cells := 0, slots := 0, locals := 51 }) [.ref hX, .int k] (ce_X cA hX h qv qb qh qk qs qg vl bf bh fr bk n us fe key sm gr root) hz (fun (r : Int32) (u : SX) => r = sp_get k M ∧ rm_I (N + 1) u.1 u.2.1 u.2.2.1 u.2.2.2.1 u.2.2.2.2.1 u.2.2.2.2.2.1 u.2.2.2.2.2.2.1 u.2.2.2.2.2.2.2.1 u.2.2.2.2.2.2.2.2.1 u.2.2.2.2.2.2.2.2.2.1 u.2.2.2.2.2.2.2.2.2.2.1 u.2.2.2.2.2.2.2.2.2.2.2 (sp_rm k M)) (fun u : SX => ce_X cA hX h qv qb qh qk qs qg u.1 u.2.1 u.2.2.1 u.2.2.2.1 u.2.2.2.2.1 u.2.2.2.2.2.1 u.2.2.2.2.2.2.1 u.2.2.2.2.2.2.2.1 u.2.2.2.2.2.2.2.2.1 u.2.2.2.2.2.2.2.2.2.1 u.2.2.2.2.2.2.2.2.2.2.1 u.2.2.2.2.2.2.2.2.2.2.2) := by
  refine xm_I_of (by decide) (Nat.le_of_ble_eq_true rfl) ?_
  intro p e s m below meth c A Q ls hx hb hml hown hts hl hP hK hD hS hA hret
  have hown : s.vm.findClass "RecentMap" = some m.cls := hown
  have hl : lv_has ls 3 [(0, .ref hX), (1, .int k)] := hl
  obtain ⟨lst, o, fl, hJ, rfl⟩ := hI
  obtain ⟨b1, b2, b3, b4, b5, b6, b7⟩ := rm_J_b hJ hN
  have hz := rm_J_z hJ
  refine lv_aload_n hx hb d_X_remove_0 rfl (lv_at hl 0 rfl) ?_
  refine xg_X hx hb hts hown hK hP 0 rfl 0 (by decide) k_37 rfl d_X_remove_1 ?_
  refine lv_iload_n hx hb d_X_remove_4 rfl (lv_at hl 1 rfl) ?_
  refine xc_I (n := 1) (As := [.int k]) (rest := []) (wr := ce_R cA hX h qv qb qh vl bf bh fr bk n us fe) (wc := ce_T cA h qk qs qg key sm gr root) hx hb hml hown hts (c_T_find l D cA h qk qs qg _ key sm gr root k lst hJ.1) (xc_G (fun _ h => .tail _ h) (.tail _ k_58) k_59 k_60 k_14 k_61) (by decide +kernel) ⟨rfl, rfl⟩ ⟨Nat.le_of_ble_eq_true rfl, Nat.le_of_ble_eq_true rfl⟩ hK hP hD hS hA [4, 5, 6, 7] [0, 1, 2, 3] rfl rfl rfl rfl rfl (by decide) rfl rfl rfl rfl hl.1 rfl (Nat.le_of_ble_eq_true rfl) d_X_remove_5 ⟨Nat.zero_le _, Nat.zero_le _⟩ (fun r u H locs hw hP hD hS => ?_)
  obtain ⟨sm1, gr1, r1⟩ := u
  dsimp only at hw
  obtain ⟨q, rfl, hT1, hq⟩ := hw
  have hJ1 := rm_J_tr hJ hT1
  have hqb : q < 4097 := by
    rcases hq with ⟨e, -⟩ | ⟨-, -, e, -⟩
    · omega
    · exact (hT1.2.2 q e).2
  have hP : va_P D classes (ce_X cA hX h qv qb qh qk qs qg vl bf bh fr bk n us fe key sm1 gr1 r1) H := hP
  have hD : va_D A (ce_X cA hX h qv qb qh qk qs qg vl bf bh fr bk n us fe key sm1 gr1 r1) := hD
  refine lv_istore_n (lv' := [(2, .int (nI q)), (0, .ref hX), (1, .int k)]) hx hb d_X_remove_8 rfl hl (by decide) rfl (fun ls hl => ?_)
  refine lv_iload_n hx hb d_X_remove_9 rfl (lv_at hl 0 rfl) ?_
  refine xn_ifne hx hb q (by omega) (tgt := 15) d_X_remove_10 (by decide) (fun c0 => ?_) (fun c0 => ?_)
  · have hq : q = r1 ∧ q ∈ lst ∧ key q = k := by
      rcases hq with ⟨e, -⟩ | ⟨-, e⟩
      · exact absurd e c0
      · exact e
    obtain ⟨hqr, hql, hqk⟩ := hq
    have hqo : q ∈ o := (hJ.2.2.2.2.2.1 q).mp hql
    obtain ⟨x, y, eo, nx, ny, hno1, hg, hrm, hhas, hset⟩ := rm_J_at (vl := vl) hJ hqo
    rw [hqk] at hg hrm hhas hset
    subst eo
    have hnd := hz.2.2.1
    have hn1 : 1 ≤ n := by rw [b3]; simp; omega
    refine lv_aload_n hx hb d_X_remove_15 rfl (lv_at hl 1 rfl) ?_
    refine xg_X hx hb hts hown hK hP 0 rfl 0 (by decide) k_37 rfl d_X_remove_16 ?_
    refine xc_V (n := 0) (As := []) (rest := []) (wr := ce_R cA hX h qv qb qh vl bf bh fr bk n us fe) (wc := ce_T cA h qk qs qg key sm1 gr1 r1) hx hb hml hown hts (c_T_cut l D cA h qk qs qg _ key sm1 gr1 r1 lst hT1 (by rw [← hqr]; exact c0)) (xc_G (fun _ h => .tail _ h) (.tail _ k_108) k_109 k_110 k_14 k_111) (by decide +kernel) ⟨rfl, rfl⟩ ⟨Nat.le_of_ble_eq_true rfl, Nat.le_of_ble_eq_true rfl⟩ hK hP hD hS hA [4, 5, 6, 7] [0, 1, 2, 3] rfl rfl rfl rfl rfl (by decide) rfl rfl rfl rfl hl.1 rfl (Nat.le_of_ble_eq_true rfl) d_X_remove_19 ⟨Nat.zero_le _, Nat.zero_le _⟩ (fun u H locs hw hP hD hS => ?_)
    obtain ⟨sm2, gr2, r2⟩ := u
    dsimp only at hw
    obtain ⟨l2, hK2, hm2⟩ := hw
    rw [← hqr] at hm2
    have hP : va_P D classes (ce_X cA hX h qv qb qh qk qs qg vl bf bh fr bk n us fe key sm2 gr2 r2) H := hP
    have hD : va_D A (ce_X cA hX h qv qb qh qk qs qg vl bf bh fr bk n us fe key sm2 gr2 r2) := hD
    refine lv_aload_n hx hb d_X_remove_22 rfl (lv_at hl 1 rfl) ?_
    refine lv_iload_n hx hb d_X_remove_23 rfl (lv_at hl 0 rfl) ?_
    refine xc_V (n := 1) (As := [.int (nI q)]) (rest := []) (wr := ce_T cA h qk qs qg key sm2 gr2 r2) (wc := ce_R cA hX h qv qb qh vl bf bh fr bk n us fe) hx hb hml hown hts (c_X_loose l D cA hX h qv qb qh _ vl bf bh fr bk n us fe q x y hJ.2.1 hnd b5) (xc_G (fun _ h => .tail _ h) (.tail _ k_87) k_88 k_6 k_13 k_89) (by decide +kernel) ⟨rfl, rfl⟩ ⟨Nat.le_of_ble_eq_true rfl, Nat.le_of_ble_eq_true rfl⟩ hK hP hD hS hA [0, 1, 2, 3] [4, 5, 6, 7] rfl rfl rfl rfl rfl (by decide) rfl rfl rfl rfl hl.1 rfl (Nat.le_of_ble_eq_true rfl) d_X_remove_24 ⟨Nat.zero_le _, Nat.zero_le _⟩ (fun u H locs hw hP hD hS => ?_)
    obtain ⟨bf1, bh1, fr1, bk1⟩ := u
    dsimp only at hw
    obtain ⟨hD1, hf1⟩ := hw
    have hJ2 := rm_remove hJ hK2 hm2 hD1 hf1
    have hP : va_P D classes (ce_X cA hX h qv qb qh qk qs qg vl bf1 bh1 fr1 bk1 n us fe key sm2 gr2 r2) H := hP.sub [4, 5, 6, 7, 0, 1, 2, 3] rfl
    have hD : va_D A (ce_X cA hX h qv qb qh qk qs qg vl bf1 bh1 fr1 bk1 n us fe key sm2 gr2 r2) := hD.sub [4, 5, 6, 7, 0, 1, 2, 3] (by decide) rfl
    refine lv_aload_n hx hb d_X_remove_27 rfl (lv_at hl 1 rfl) ?_
    refine xg_X hx hb hts hown hK hP 0 rfl 3 (by decide) k_40 rfl d_X_remove_28 ?_
    refine lv_iload_n hx hb d_X_remove_31 rfl (lv_at hl 0 rfl) ?_
    refine lv_aload_n hx hb d_X_remove_32 rfl (lv_at hl 1 rfl) ?_
    refine xg_X hx hb hts hown hK hP 0 rfl 8 (by decide) k_45 rfl d_X_remove_33 ?_
    refine xn_ast hx hb hK hP hD hS 3 rfl q fe (by omega) (by decide) d_X_remove_36 (fun H locs hP hD hS => ?_)
    have hP : va_P D classes (ce_X cA hX h qv qb qh qk qs qg vl bf1 (va_up bh1 q fe) fr1 bk1 n us fe key sm2 gr2 r2) H := hP
    have hD : va_D A (ce_X cA hX h qv qb qh qk qs qg vl bf1 (va_up bh1 q fe) fr1 bk1 n us fe key sm2 gr2 r2) := hD
    refine lv_aload_n hx hb d_X_remove_37 rfl (lv_at hl 1 rfl) ?_
    refine lv_iload_n hx hb d_X_remove_38 rfl (lv_at hl 0 rfl) ?_
    refine xp_X hx hb hts hown hK hP hD hS 0 rfl 8 (by decide) k_45 (.int (nI q)) rfl rfl rfl (Nat.le_of_ble_eq_true rfl) d_X_remove_39 (fun H locs hP hD hS => ?_)
    have hP : va_P D classes (ce_X cA hX h qv qb qh qk qs qg vl bf1 (va_up bh1 q fe) fr1 bk1 n us q key sm2 gr2 r2) H := hP
    have hD : va_D A (ce_X cA hX h qv qb qh qk qs qg vl bf1 (va_up bh1 q fe) fr1 bk1 n us q key sm2 gr2 r2) := hD
    refine lv_aload_n hx hb d_X_remove_42 rfl (lv_at hl 1 rfl) ?_
    refine lv_dup hx hb d_X_remove_43 rfl ?_
    refine xg_X hx hb hts hown hK hP 0 rfl 6 (by decide) k_43 rfl d_X_remove_44 ?_
    refine lv_iconst (v := 1) hx hb d_X_remove_47 (by decide) ?_
    refine lv_isub hx hb d_X_remove_48 ?_
    refine xi_top (nI (n - 1)) (pk_sub (b := 1) (by omega)) ?_
    refine xp_X hx hb hts hown hK hP hD hS 0 rfl 6 (by decide) k_43 (.int (nI (n - 1))) rfl rfl rfl (Nat.le_of_ble_eq_true rfl) d_X_remove_49 (fun H locs hP hD hS => ?_)
    have hP : va_P D classes (ce_X cA hX h qv qb qh qk qs qg vl bf1 (va_up bh1 q fe) fr1 bk1 (n - 1) us q key sm2 gr2 r2) H := hP
    have hD : va_D A (ce_X cA hX h qv qb qh qk qs qg vl bf1 (va_up bh1 q fe) fr1 bk1 (n - 1) us q key sm2 gr2 r2) := hD
    refine lv_aload_n hx hb d_X_remove_52 rfl (lv_at hl 1 rfl) ?_
    refine xg_X hx hb hts hown hK hP 0 rfl 1 (by decide) k_38 rfl d_X_remove_53 ?_
    refine lv_iload_n hx hb d_X_remove_56 rfl (lv_at hl 0 rfl) ?_
    refine xk_ald hx hb hK hP 1 rfl q (by omega) (by decide) d_X_remove_57 ?_
    exact hret 58 _ _ _ (vl q) (vl, bf1, va_up bh1 q fe, fr1, bk1, n - 1, us, q, key, sm2, gr2, r2) d_X_remove_58 ⟨hg.symm, l2, _, _, rm_J_up hJ2, hrm⟩ hP hD hS
  · have hno : ∀ i ∈ lst, key i ≠ k := by
      rcases hq with ⟨-, e⟩ | ⟨e, -⟩
      · exact e
      · exact absurd c0 e
    have hnoM : sp_no k (rm_M key vl o) := rm_no (fun i hi => hno i ((hJ.2.2.2.2.2.1 i).mpr hi))
    have so := sp_out _ hnoM
    refine lv_iconst (v := 0) hx hb d_X_remove_13 (by decide) ?_
    exact hret 14 _ _ _ 0 (vl, bf, bh, fr, bk, n, us, fe, key, sm1, gr1, r1) d_X_remove_14 ⟨so.1.symm, lst, o, fl, rm_J_up hJ1, so.2.1⟩ hP hD hS
end
section
/-! MAP: contracts of the thin methods (printed by gen/map.py) -/
set_option maxHeartbeats 4000000 in
set_option maxRecDepth 100000 in
/-- X_putFirst -/
theorem c_X_putFirst (l : Launch) (D : va_G) (cA : ClassId) (hX h qv qb qh qk qs qg hz : Nat) (vl : Nat → Int32) (bf bh : Nat → Nat) (fr bk n us fe : Nat) (key : Nat → Int32) (sm gr : Nat → Nat) (root : Nat) (k v : Int32) (N : Nat) (M : List (Int32 × Int32)) (hI : rm_I N vl bf bh fr bk n us fe key sm gr root M) (hN : N < 4000) : xm_I l D cA y_X_putFirst b_X_putFirst 3 ({ frames := 4, cells := 0, slots := 0, locals := 99 }) [.ref hX, .int k, .int v] (ce_X cA hX h qv qb qh qk qs qg vl bf bh fr bk n us fe key sm gr root) hz (fun (r : Int32) (u : SX) => r = sp_get k M ∧ rm_I (N + 1) u.1 u.2.1 u.2.2.1 u.2.2.2.1 u.2.2.2.2.1 u.2.2.2.2.2.1 u.2.2.2.2.2.2.1 u.2.2.2.2.2.2.2.1 u.2.2.2.2.2.2.2.2.1 u.2.2.2.2.2.2.2.2.2.1 u.2.2.2.2.2.2.2.2.2.2.1 u.2.2.2.2.2.2.2.2.2.2.2 (sp_mv 1 (k, v) (sp_rm k M))) (fun u : SX => ce_X cA hX h qv qb qh qk qs qg u.1 u.2.1 u.2.2.1 u.2.2.2.1 u.2.2.2.2.1 u.2.2.2.2.2.1 u.2.2.2.2.2.2.1 u.2.2.2.2.2.2.2.1 u.2.2.2.2.2.2.2.2.1 u.2.2.2.2.2.2.2.2.2.1 u.2.2.2.2.2.2.2.2.2.2.1 u.2.2.2.2.2.2.2.2.2.2.2) := by
  refine xm_I_of (by decide) (Nat.le_of_ble_eq_true rfl) ?_
  intro p e s m below meth c A Q ls hx hb hml hown hts hl hP hK hD hS hA hret
  have hown : s.vm.findClass "RecentMap" = some m.cls := hown
  have hl : lv_has ls 3 [(0, .ref hX), (1, .int k), (2, .int v)] := hl
  refine lv_aload_n hx hb d_X_putFirst_0 rfl (lv_at hl 0 rfl) ?_
  refine lv_iload_n hx hb d_X_putFirst_1 rfl (lv_at hl 1 rfl) ?_
  refine lv_iload_n hx hb d_X_putFirst_2 rfl (lv_at hl 2 rfl) ?_
  refine lv_iconst (v := 1) hx hb d_X_putFirst_3 (by decide) ?_
  refine xc_I (n := 3) (As := [.int k, .int v, .int 1]) (rest := []) (wr := []) (wc := ce_X cA hX h qv qb qh qk qs qg vl bf bh fr bk n us fe key sm gr root) hx hb hml hown hts (c_X_puts l D cA hX h qv qb qh qk qs qg _ vl bf bh fr bk n us fe key sm gr root k v 1 N M hI hN) (xc_G (fun _ h => .tail _ h) (.tail _ k_84) k_85 k_5 k_13 k_86) (by decide +kernel) ⟨rfl, rfl⟩ ⟨Nat.le_of_ble_eq_true rfl, Nat.le_of_ble_eq_true rfl⟩ hK hP hD hS hA [0, 1, 2, 3, 4, 5, 6, 7] [] rfl rfl rfl rfl rfl (by decide) rfl rfl rfl rfl hl.1 rfl (Nat.le_of_ble_eq_true rfl) d_X_putFirst_4 ⟨Nat.zero_le _, Nat.zero_le _⟩ (fun r u H locs hw hP hD hS => ?_)
  obtain ⟨vl2, bf2, bh2, fr2, bk2, n2, us2, fe2, key2, sm2, gr2, root2⟩ := u
  dsimp only at hw
  obtain ⟨hr1, hI2⟩ := hw
  have hP : va_P D classes (ce_X cA hX h qv qb qh qk qs qg vl2 bf2 bh2 fr2 bk2 n2 us2 fe2 key2 sm2 gr2 root2) H := hP
  have hD : va_D A (ce_X cA hX h qv qb qh qk qs qg vl2 bf2 bh2 fr2 bk2 n2 us2 fe2 key2 sm2 gr2 root2) := hD
  exact hret 7 _ _ _ r (vl2, bf2, bh2, fr2, bk2, n2, us2, fe2, key2, sm2, gr2, root2) d_X_putFirst_7 ⟨hr1, hI2⟩ hP hD hS
set_option maxHeartbeats 4000000 in
set_option maxRecDepth 100000 in
/-- X_putLast -/
theorem c_X_putLast (l : Launch) (D : va_G) (cA : ClassId) (hX h qv qb qh qk qs qg hz : Nat) (vl : Nat → Int32) (bf bh : Nat → Nat) (fr bk n us fe : Nat) (key : Nat → Int32) (sm gr : Nat → Nat) (root : Nat) (k v : Int32) (N : Nat) (M : List (Int32 × Int32)) (hI : rm_I N vl bf bh fr bk n us fe key sm gr root M) (hN : N < 4000) : xm_I l D cA y_X_putLast b_X_putLast 3 ({ frames := 4, cells := 0, slots := 0, locals := 99 }) [.ref hX, .int k, .int v] (ce_X cA hX h qv qb qh qk qs qg vl bf bh fr bk n us fe key sm gr root) hz (fun (r : Int32) (u : SX) => r = sp_get k M ∧ rm_I (N + 1) u.1 u.2.1 u.2.2.1 u.2.2.2.1 u.2.2.2.2.1 u.2.2.2.2.2.1 u.2.2.2.2.2.2.1 u.2.2.2.2.2.2.2.1 u.2.2.2.2.2.2.2.2.1 u.2.2.2.2.2.2.2.2.2.1 u.2.2.2.2.2.2.2.2.2.2.1 u.2.2.2.2.2.2.2.2.2.2.2 (sp_mv 0 (k, v) (sp_rm k M))) (fun u : SX => ce_X cA hX h qv qb qh qk qs qg u.1 u.2.1 u.2.2.1 u.2.2.2.1 u.2.2.2.2.1 u.2.2.2.2.2.1 u.2.2.2.2.2.2.1 u.2.2.2.2.2.2.2.1 u.2.2.2.2.2.2.2.2.1 u.2.2.2.2.2.2.2.2.2.1 u.2.2.2.2.2.2.2.2.2.2.1 u.2.2.2.2.2.2.2.2.2.2.2) := by
  refine xm_I_of (by decide) (Nat.le_of_ble_eq_true rfl) ?_
  intro p e s m below meth c A Q ls hx hb hml hown hts hl hP hK hD hS hA hret
  have hown : s.vm.findClass "RecentMap" = some m.cls := hown
  have hl : lv_has ls 3 [(0, .ref hX), (1, .int k), (2, .int v)] := hl
  refine lv_aload_n hx hb d_X_putLast_0 rfl (lv_at hl 0 rfl) ?_
  refine lv_iload_n hx hb d_X_putLast_1 rfl (lv_at hl 1 rfl) ?_
  refine lv_iload_n hx hb d_X_putLast_2 rfl (lv_at hl 2 rfl) ?_
  refine lv_iconst (v := 0) hx hb d_X_putLast_3 (by decide) ?_
  refine xc_I (n := 3) (As := [.int k, .int v, .int 0]) (rest := []) (wr := []) (wc := ce_X cA hX h qv qb qh qk qs qg vl bf bh fr bk n us fe key sm gr root) hx hb hml hown hts (c_X_puts l D cA hX h qv qb qh qk qs qg _ vl bf bh fr bk n us fe key sm gr root k v 0 N M hI hN) (xc_G (fun _ h => .tail _ h) (.tail _ k_84) k_85 k_5 k_13 k_86) (by decide +kernel) ⟨rfl, rfl⟩ ⟨Nat.le_of_ble_eq_true rfl, Nat.le_of_ble_eq_true rfl⟩ hK hP hD hS hA [0, 1, 2, 3, 4, 5, 6, 7] [] rfl rfl rfl rfl rfl (by decide) rfl rfl rfl rfl hl.1 rfl (Nat.le_of_ble_eq_true rfl) d_X_putLast_4 ⟨Nat.zero_le _, Nat.zero_le _⟩ (fun r u H locs hw hP hD hS => ?_)
  obtain ⟨vl2, bf2, bh2, fr2, bk2, n2, us2, fe2, key2, sm2, gr2, root2⟩ := u
  dsimp only at hw
  obtain ⟨hr1, hI2⟩ := hw
  have hP : va_P D classes (ce_X cA hX h qv qb qh qk qs qg vl2 bf2 bh2 fr2 bk2 n2 us2 fe2 key2 sm2 gr2 root2) H := hP
  have hD : va_D A (ce_X cA hX h qv qb qh qk qs qg vl2 bf2 bh2 fr2 bk2 n2 us2 fe2 key2 sm2 gr2 root2) := hD
  exact hret 7 _ _ _ r (vl2, bf2, bh2, fr2, bk2, n2, us2, fe2, key2, sm2, gr2, root2) d_X_putLast_7 ⟨hr1, hI2⟩ hP hD hS
set_option maxHeartbeats 4000000 in
set_option maxRecDepth 100000 in
/-- X_touchFirst -/
theorem c_X_touchFirst (l : Launch) (D : va_G) (cA : ClassId) (hX h qv qb qh qk qs qg hz : Nat) (vl : Nat → Int32) (bf bh : Nat → Nat) (fr bk n us fe : Nat) (key : Nat → Int32) (sm gr : Nat → Nat) (root : Nat) (k : Int32) (N : Nat) (M : List (Int32 × Int32)) (hI : rm_I N vl bf bh fr bk n us fe key sm gr root M) (hN : N < 4000) : xm_I l D cA y_X_touchFirst b_X_touchFirst 2 ({ frames := 3, cells := 0, slots := 0, locals := 73 }) [.ref hX, .int k] (ce_X cA hX h qv qb qh qk qs qg vl bf bh fr bk n us fe key sm gr root) hz (fun (r : Int32) (u : SX) => r = sp_get k M ∧ rm_I (N + 1) u.1 u.2.1 u.2.2.1 u.2.2.2.1 u.2.2.2.2.1 u.2.2.2.2.2.1 u.2.2.2.2.2.2.1 u.2.2.2.2.2.2.2.1 u.2.2.2.2.2.2.2.2.1 u.2.2.2.2.2.2.2.2.2.1 u.2.2.2.2.2.2.2.2.2.2.1 u.2.2.2.2.2.2.2.2.2.2.2 (sp_tch 1 k M)) (fun u : SX => ce_X cA hX h qv qb qh qk qs qg u.1 u.2.1 u.2.2.1 u.2.2.2.1 u.2.2.2.2.1 u.2.2.2.2.2.1 u.2.2.2.2.2.2.1 u.2.2.2.2.2.2.2.1 u.2.2.2.2.2.2.2.2.1 u.2.2.2.2.2.2.2.2.2.1 u.2.2.2.2.2.2.2.2.2.2.1 u.2.2.2.2.2.2.2.2.2.2.2) := by
  refine xm_I_of (by decide) (Nat.le_of_ble_eq_true rfl) ?_
  intro p e s m below meth c A Q ls hx hb hml hown hts hl hP hK hD hS hA hret
  have hown : s.vm.findClass "RecentMap" = some m.cls := hown
  have hl : lv_has ls 2 [(0, .ref hX), (1, .int k)] := hl
  refine lv_aload_n hx hb d_X_touchFirst_0 rfl (lv_at hl 0 rfl) ?_
  refine lv_iload_n hx hb d_X_touchFirst_1 rfl (lv_at hl 1 rfl) ?_
  refine lv_iconst (v := 1) hx hb d_X_touchFirst_2 (by decide) ?_
  refine xc_I (n := 2) (As := [.int k, .int 1]) (rest := []) (wr := []) (wc := ce_X cA hX h qv qb qh qk qs qg vl bf bh fr bk n us fe key sm gr root) hx hb hml hown hts (c_X_touch l D cA hX h qv qb qh qk qs qg _ vl bf bh fr bk n us fe key sm gr root k 1 N M hI hN) (xc_G (fun _ h => .tail _ h) (.tail _ k_96) k_97 k_7 k_13 k_98) (by decide +kernel) ⟨rfl, rfl⟩ ⟨Nat.le_of_ble_eq_true rfl, Nat.le_of_ble_eq_true rfl⟩ hK hP hD hS hA [0, 1, 2, 3, 4, 5, 6, 7] [] rfl rfl rfl rfl rfl (by decide) rfl rfl rfl rfl hl.1 rfl (Nat.le_of_ble_eq_true rfl) d_X_touchFirst_3 ⟨Nat.zero_le _, Nat.zero_le _⟩ (fun r u H locs hw hP hD hS => ?_)
  obtain ⟨vl2, bf2, bh2, fr2, bk2, n2, us2, fe2, key2, sm2, gr2, root2⟩ := u
  dsimp only at hw
  obtain ⟨hr1, hI2⟩ := hw
  have hP : va_P D classes (ce_X cA hX h qv qb qh qk qs qg vl2 bf2 bh2 fr2 bk2 n2 us2 fe2 key2 sm2 gr2 root2) H := hP
  have hD : va_D A (ce_X cA hX h qv qb qh qk qs qg vl2 bf2 bh2 fr2 bk2 n2 us2 fe2 key2 sm2 gr2 root2) := hD
  exact hret 6 _ _ _ r (vl2, bf2, bh2, fr2, bk2, n2, us2, fe2, key2, sm2, gr2, root2) d_X_touchFirst_6 ⟨hr1, hI2⟩ hP hD hS
set_option maxHeartbeats 4000000 in
set_option maxRecDepth 100000 in
/-- X_touchLast -/
theorem c_X_touchLast (l : Launch) (D : va_G) (cA : ClassId) (hX h qv qb qh qk qs qg hz : Nat) (vl : Nat → Int32) (bf bh : Nat → Nat) (fr bk n us fe : Nat) (key : Nat → Int32) (sm gr : Nat → Nat) (root : Nat) (k : Int32) (N : Nat) (M : List (Int32 × Int32)) (hI : rm_I N vl bf bh fr bk n us fe key sm gr root M) (hN : N < 4000) : xm_I l D cA y_X_touchLast b_X_touchLast 2 ({ frames := 3, cells := 0, slots := 0, locals := 73 }) [.ref hX, .int k] (ce_X cA hX h qv qb qh qk qs qg vl bf bh fr bk n us fe key sm gr root) hz (fun (r : Int32) (u : SX) => r = sp_get k M ∧ rm_I (N + 1) u.1 u.2.1 u.2.2.1 u.2.2.2.1 u.2.2.2.2.1 u.2.2.2.2.2.1 u.2.2.2.2.2.2.1 u.2.2.2.2.2.2.2.1 u.2.2.2.2.2.2.2.2.1 u.2.2.2.2.2.2.2.2.2.1 u.2.2.2.2.2.2.2.2.2.2.1 u.2.2.2.2.2.2.2.2.2.2.2 (sp_tch 0 k M)) (fun u : SX => ce_X cA hX h qv qb qh qk qs qg u.1 u.2.1 u.2.2.1 u.2.2.2.1 u.2.2.2.2.1 u.2.2.2.2.2.1 u.2.2.2.2.2.2.1 u.2.2.2.2.2.2.2.1 u.2.2.2.2.2.2.2.2.1 u.2.2.2.2.2.2.2.2.2.1 u.2.2.2.2.2.2.2.2.2.2.1 u.2.2.2.2.2.2.2.2.2.2.2) := by
  refine xm_I_of (by decide) (Nat.le_of_ble_eq_true rfl) ?_
  intro p e s m below meth c A Q ls hx hb hml hown hts hl hP hK hD hS hA hret
  have hown : s.vm.findClass "RecentMap" = some m.cls := hown
  have hl : lv_has ls 2 [(0, .ref hX), (1, .int k)] := hl
  refine lv_aload_n hx hb d_X_touchLast_0 rfl (lv_at hl 0 rfl) ?_
  refine lv_iload_n hx hb d_X_touchLast_1 rfl (lv_at hl 1 rfl) ?_
  refine lv_iconst (v := 0) hx hb d_X_touchLast_2 (by decide) ?_
  refine xc_I (n := 2) (As := [.int k, .int 0]) (rest := []) (wr := []) (wc := ce_X cA hX h qv qb qh qk qs qg vl bf bh fr bk n us fe key sm gr root) hx hb hml hown hts (c_X_touch l D cA hX h qv qb qh qk qs qg _ vl bf bh fr bk n us fe key sm gr root k 0 N M hI hN) (xc_G (fun _ h => .tail _ h) (.tail _ k_96) k_97 k_7 k_13 k_98) (by decide +kernel) ⟨rfl, rfl⟩ ⟨Nat.le_of_ble_eq_true rfl, Nat.le_of_ble_eq_true rfl⟩ hK hP hD hS hA [0, 1, 2, 3, 4, 5, 6, 7] [] rfl rfl rfl rfl rfl (by decide) rfl rfl rfl rfl hl.1 rfl (Nat.le_of_ble_eq_true rfl) d_X_touchLast_3 ⟨Nat.zero_le _, Nat.zero_le _⟩ (fun r u H locs hw hP hD hS => ?_)
  obtain ⟨vl2, bf2, bh2, fr2, bk2, n2, us2, fe2, key2, sm2, gr2, root2⟩ := u
  dsimp only at hw
  obtain ⟨hr1, hI2⟩ := hw
  have hP : va_P D classes (ce_X cA hX h qv qb qh qk qs qg vl2 bf2 bh2 fr2 bk2 n2 us2 fe2 key2 sm2 gr2 root2) H := hP
  have hD : va_D A (ce_X cA hX h qv qb qh qk qs qg vl2 bf2 bh2 fr2 bk2 n2 us2 fe2 key2 sm2 gr2 root2) := hD
  exact hret 6 _ _ _ r (vl2, bf2, bh2, fr2, bk2, n2, us2, fe2, key2, sm2, gr2, root2) d_X_touchLast_6 ⟨hr1, hI2⟩ hP hD hS
set_option maxHeartbeats 4000000 in
set_option maxRecDepth 100000 in
/-- X_dropFirst -/
theorem c_X_dropFirst (l : Launch) (D : va_G) (cA : ClassId) (hX h qv qb qh qk qs qg hz : Nat) (vl : Nat → Int32) (bf bh : Nat → Nat) (fr bk n us fe : Nat) (key : Nat → Int32) (sm gr : Nat → Nat) (root : Nat)  (N : Nat) (M : List (Int32 × Int32)) (hI : rm_I N vl bf bh fr bk n us fe key sm gr root M) (hN : N < 4000) : xm_I l D cA y_X_dropFirst b_X_dropFirst 1 ({ frames := 3, cells := 0, slots := 0, locals := 73 }) [.ref hX] (ce_X cA hX h qv qb qh qk qs qg vl bf bh fr bk n us fe key sm gr root) hz (fun (r : Int32) (u : SX) => r = sp_fv M ∧ rm_I (N + 1) u.1 u.2.1 u.2.2.1 u.2.2.2.1 u.2.2.2.2.1 u.2.2.2.2.2.1 u.2.2.2.2.2.2.1 u.2.2.2.2.2.2.2.1 u.2.2.2.2.2.2.2.2.1 u.2.2.2.2.2.2.2.2.2.1 u.2.2.2.2.2.2.2.2.2.2.1 u.2.2.2.2.2.2.2.2.2.2.2 M.tail) (fun u : SX => ce_X cA hX h qv qb qh qk qs qg u.1 u.2.1 u.2.2.1 u.2.2.2.1 u.2.2.2.2.1 u.2.2.2.2.2.1 u.2.2.2.2.2.2.1 u.2.2.2.2.2.2.2.1 u.2.2.2.2.2.2.2.2.1 u.2.2.2.2.2.2.2.2.2.1 u.2.2.2.2.2.2.2.2.2.2.1 u.2.2.2.2.2.2.2.2.2.2.2) := by
  refine xm_I_of (by decide) (Nat.le_of_ble_eq_true rfl) ?_
  intro p e s m below meth c A Q ls hx hb hml hown hts hl hP hK hD hS hA hret
  have hown : s.vm.findClass "RecentMap" = some m.cls := hown
  have hl : lv_has ls 1 [(0, .ref hX)] := hl
  have hI0 := hI
  obtain ⟨lst, o, fl, hJ, rfl⟩ := hI
  obtain ⟨b1, b2, b3, b4, b5, b6, b7⟩ := rm_J_b hJ hN
  have hz := rm_J_z hJ
  refine lv_aload_n hx hb d_X_dropFirst_0 rfl (lv_at hl 0 rfl) ?_
  refine xg_X hx hb hts hown hK hP 0 rfl 4 (by decide) k_41 rfl d_X_dropFirst_1 ?_
  refine xn_ifne hx hb fr (by omega) (tgt := 11) d_X_dropFirst_4 (by decide) (fun c0 => ?_) (fun c0 => ?_)
  · have hf := rm_first (vl := vl) hJ c0
    refine lv_aload_n hx hb d_X_dropFirst_11 rfl (lv_at hl 0 rfl) ?_
    refine lv_aload_n hx hb d_X_dropFirst_12 rfl (lv_at hl 0 rfl) ?_
    refine xg_X hx hb hts hown hK hP 0 rfl 0 (by decide) k_37 rfl d_X_dropFirst_13 ?_
    refine xg_T hx hb hts hown hK hP 4 rfl 0 (by decide) k_28 rfl d_X_dropFirst_16 ?_
    refine lv_aload_n hx hb d_X_dropFirst_19 rfl (lv_at hl 0 rfl) ?_
    refine xg_X hx hb hts hown hK hP 0 rfl 4 (by decide) k_41 rfl d_X_dropFirst_20 ?_
    refine xk_ald hx hb hK hP 5 rfl fr (by omega) (by decide) d_X_dropFirst_23 ?_
    refine xc_I (n := 1) (As := [.int (key fr)]) (rest := []) (wr := []) (wc := ce_X cA hX h qv qb qh qk qs qg vl bf bh fr bk n us fe key sm gr root) hx hb hml hown hts (c_X_remove l D cA hX h qv qb qh qk qs qg _ vl bf bh fr bk n us fe key sm gr root (key fr) N _ hI0 hN) (xc_G (fun _ h => .tail _ h) (.tail _ k_115) k_105 k_106 k_13 k_107) (by decide +kernel) ⟨rfl, rfl⟩ ⟨Nat.le_of_ble_eq_true rfl, Nat.le_of_ble_eq_true rfl⟩ hK hP hD hS hA [0, 1, 2, 3, 4, 5, 6, 7] [] rfl rfl rfl rfl rfl (by decide) rfl rfl rfl rfl hl.1 rfl (Nat.le_of_ble_eq_true rfl) d_X_dropFirst_24 ⟨Nat.zero_le _, Nat.zero_le _⟩ (fun r u H locs hw hP hD hS => ?_)
    obtain ⟨vl2, bf2, bh2, fr2, bk2, n2, us2, fe2, key2, sm2, gr2, root2⟩ := u
    dsimp only at hw
    obtain ⟨hr1, hI2⟩ := hw
    have hP : va_P D classes (ce_X cA hX h qv qb qh qk qs qg vl2 bf2 bh2 fr2 bk2 n2 us2 fe2 key2 sm2 gr2 root2) H := hP
    have hD : va_D A (ce_X cA hX h qv qb qh qk qs qg vl2 bf2 bh2 fr2 bk2 n2 us2 fe2 key2 sm2 gr2 root2) := hD
    exact hret 27 _ _ _ r (vl2, bf2, bh2, fr2, bk2, n2, us2, fe2, key2, sm2, gr2, root2) d_X_dropFirst_27 ⟨by rw [hr1, hf.2.1], by rw [hf.2.2]; exact hI2⟩ hP hD hS
  · have ho := (rm_empty hJ).1 c0
    refine lv_iconst (v := 0) hx hb d_X_dropFirst_7 (by decide) ?_
    refine lv_goto (tgt := 27) hx hb d_X_dropFirst_8 (by decide) ?_
    exact hret 27 _ _ _ 0 (vl, bf, bh, fr, bk, n, us, fe, key, sm, gr, root) d_X_dropFirst_27 ⟨by rw [ho]; rfl, lst, o, fl, rm_J_up hJ, by rw [ho]; rfl⟩ hP hD hS
set_option maxHeartbeats 4000000 in
set_option maxRecDepth 100000 in
/-- X_dropLast -/
theorem c_X_dropLast (l : Launch) (D : va_G) (cA : ClassId) (hX h qv qb qh qk qs qg hz : Nat) (vl : Nat → Int32) (bf bh : Nat → Nat) (fr bk n us fe : Nat) (key : Nat → Int32) (sm gr : Nat → Nat) (root : Nat)  (N : Nat) (M : List (Int32 × Int32)) (hI : rm_I N vl bf bh fr bk n us fe key sm gr root M) (hN : N < 4000) : xm_I l D cA y_X_dropLast b_X_dropLast 1 ({ frames := 3, cells := 0, slots := 0, locals := 73 }) [.ref hX] (ce_X cA hX h qv qb qh qk qs qg vl bf bh fr bk n us fe key sm gr root) hz (fun (r : Int32) (u : SX) => r = sp_lv M ∧ rm_I (N + 1) u.1 u.2.1 u.2.2.1 u.2.2.2.1 u.2.2.2.2.1 u.2.2.2.2.2.1 u.2.2.2.2.2.2.1 u.2.2.2.2.2.2.2.1 u.2.2.2.2.2.2.2.2.1 u.2.2.2.2.2.2.2.2.2.1 u.2.2.2.2.2.2.2.2.2.2.1 u.2.2.2.2.2.2.2.2.2.2.2 M.dropLast) (fun u : SX => ce_X cA hX h qv qb qh qk qs qg u.1 u.2.1 u.2.2.1 u.2.2.2.1 u.2.2.2.2.1 u.2.2.2.2.2.1 u.2.2.2.2.2.2.1 u.2.2.2.2.2.2.2.1 u.2.2.2.2.2.2.2.2.1 u.2.2.2.2.2.2.2.2.2.1 u.2.2.2.2.2.2.2.2.2.2.1 u.2.2.2.2.2.2.2.2.2.2.2) := by
  refine xm_I_of (by decide) (Nat.le_of_ble_eq_true rfl) ?_
  intro p e s m below meth c A Q ls hx hb hml hown hts hl hP hK hD hS hA hret
  have hown : s.vm.findClass "RecentMap" = some m.cls := hown
  have hl : lv_has ls 1 [(0, .ref hX)] := hl
  have hI0 := hI
  obtain ⟨lst, o, fl, hJ, rfl⟩ := hI
  obtain ⟨b1, b2, b3, b4, b5, b6, b7⟩ := rm_J_b hJ hN
  have hz := rm_J_z hJ
  refine lv_aload_n hx hb d_X_dropLast_0 rfl (lv_at hl 0 rfl) ?_
  refine xg_X hx hb hts hown hK hP 0 rfl 5 (by decide) k_42 rfl d_X_dropLast_1 ?_
  refine xn_ifne hx hb bk (by omega) (tgt := 11) d_X_dropLast_4 (by decide) (fun c0 => ?_) (fun c0 => ?_)
  · have hf := rm_last (vl := vl) hJ c0
    refine lv_aload_n hx hb d_X_dropLast_11 rfl (lv_at hl 0 rfl) ?_
    refine lv_aload_n hx hb d_X_dropLast_12 rfl (lv_at hl 0 rfl) ?_
    refine xg_X hx hb hts hown hK hP 0 rfl 0 (by decide) k_37 rfl d_X_dropLast_13 ?_
    refine xg_T hx hb hts hown hK hP 4 rfl 0 (by decide) k_28 rfl d_X_dropLast_16 ?_
    refine lv_aload_n hx hb d_X_dropLast_19 rfl (lv_at hl 0 rfl) ?_
    refine xg_X hx hb hts hown hK hP 0 rfl 5 (by decide) k_42 rfl d_X_dropLast_20 ?_
    refine xk_ald hx hb hK hP 5 rfl bk (by omega) (by decide) d_X_dropLast_23 ?_
    refine xc_I (n := 1) (As := [.int (key bk)]) (rest := []) (wr := []) (wc := ce_X cA hX h qv qb qh qk qs qg vl bf bh fr bk n us fe key sm gr root) hx hb hml hown hts (c_X_remove l D cA hX h qv qb qh qk qs qg _ vl bf bh fr bk n us fe key sm gr root (key bk) N _ hI0 hN) (xc_G (fun _ h => .tail _ h) (.tail _ k_115) k_105 k_106 k_13 k_107) (by decide +kernel) ⟨rfl, rfl⟩ ⟨Nat.le_of_ble_eq_true rfl, Nat.le_of_ble_eq_true rfl⟩ hK hP hD hS hA [0, 1, 2, 3, 4, 5, 6, 7] [] rfl rfl rfl rfl rfl (by decide) rfl rfl rfl rfl hl.1 rfl (Nat.le_of_ble_eq_true rfl) d_X_dropLast_24 ⟨Nat.zero_le _, Nat.zero_le _⟩ (fun r u H locs hw hP hD hS => ?_)
    obtain ⟨vl2, bf2, bh2, fr2, bk2, n2, us2, fe2, key2, sm2, gr2, root2⟩ := u
    dsimp only at hw
    obtain ⟨hr1, hI2⟩ := hw
    have hP : va_P D classes (ce_X cA hX h qv qb qh qk qs qg vl2 bf2 bh2 fr2 bk2 n2 us2 fe2 key2 sm2 gr2 root2) H := hP
    have hD : va_D A (ce_X cA hX h qv qb qh qk qs qg vl2 bf2 bh2 fr2 bk2 n2 us2 fe2 key2 sm2 gr2 root2) := hD
    exact hret 27 _ _ _ r (vl2, bf2, bh2, fr2, bk2, n2, us2, fe2, key2, sm2, gr2, root2) d_X_dropLast_27 ⟨by rw [hr1, hf.2.1], by rw [hf.2.2]; exact hI2⟩ hP hD hS
  · have ho := (rm_empty hJ).2 c0
    refine lv_iconst (v := 0) hx hb d_X_dropLast_7 (by decide) ?_
    refine lv_goto (tgt := 27) hx hb d_X_dropLast_8 (by decide) ?_
    exact hret 27 _ _ _ 0 (vl, bf, bh, fr, bk, n, us, fe, key, sm, gr, root) d_X_dropLast_27 ⟨by rw [ho]; rfl, lst, o, fl, rm_J_up hJ, by rw [ho]; rfl⟩ hP hD hS
set_option maxHeartbeats 4000000 in
set_option maxRecDepth 100000 in
/-- X_first -/
theorem c_X_first (l : Launch) (D : va_G) (cA : ClassId) (hX h qv qb qh qk qs qg hz : Nat) (vl : Nat → Int32) (bf bh : Nat → Nat) (fr bk n us fe : Nat) (key : Nat → Int32) (sm gr : Nat → Nat) (root : Nat)  (N : Nat) (M : List (Int32 × Int32)) (hI : rm_I N vl bf bh fr bk n us fe key sm gr root M) (hN : N < 4000) : xm_I l D cA y_X_first b_X_first 1 ({ frames := 0, cells := 0, slots := 0, locals := 0 }) [.ref hX] (ce_X cA hX h qv qb qh qk qs qg vl bf bh fr bk n us fe key sm gr root) hz (fun (r : Int32) (u : SX) => r = sp_fk M ∧ rm_I (N + 1) u.1 u.2.1 u.2.2.1 u.2.2.2.1 u.2.2.2.2.1 u.2.2.2.2.2.1 u.2.2.2.2.2.2.1 u.2.2.2.2.2.2.2.1 u.2.2.2.2.2.2.2.2.1 u.2.2.2.2.2.2.2.2.2.1 u.2.2.2.2.2.2.2.2.2.2.1 u.2.2.2.2.2.2.2.2.2.2.2 M) (fun u : SX => ce_X cA hX h qv qb qh qk qs qg u.1 u.2.1 u.2.2.1 u.2.2.2.1 u.2.2.2.2.1 u.2.2.2.2.2.1 u.2.2.2.2.2.2.1 u.2.2.2.2.2.2.2.1 u.2.2.2.2.2.2.2.2.1 u.2.2.2.2.2.2.2.2.2.1 u.2.2.2.2.2.2.2.2.2.2.1 u.2.2.2.2.2.2.2.2.2.2.2) := by
  refine xm_I_of (by decide) (Nat.le_of_ble_eq_true rfl) ?_
  intro p e s m below meth c A Q ls hx hb hml hown hts hl hP hK hD hS hA hret
  have hown : s.vm.findClass "RecentMap" = some m.cls := hown
  have hl : lv_has ls 1 [(0, .ref hX)] := hl
  obtain ⟨lst, o, fl, hJ, rfl⟩ := hI
  obtain ⟨b1, b2, b3, b4, b5, b6, b7⟩ := rm_J_b hJ hN
  have hz := rm_J_z hJ
  refine lv_aload_n hx hb d_X_first_0 rfl (lv_at hl 0 rfl) ?_
  refine xg_X hx hb hts hown hK hP 0 rfl 4 (by decide) k_41 rfl d_X_first_1 ?_
  refine xn_ifne hx hb fr (by omega) (tgt := 11) d_X_first_4 (by decide) (fun c0 => ?_) (fun c0 => ?_)
  · have hf := rm_first (vl := vl) hJ c0
    refine lv_aload_n hx hb d_X_first_11 rfl (lv_at hl 0 rfl) ?_
    refine xg_X hx hb hts hown hK hP 0 rfl 0 (by decide) k_37 rfl d_X_first_12 ?_
    refine xg_T hx hb hts hown hK hP 4 rfl 0 (by decide) k_28 rfl d_X_first_15 ?_
    refine lv_aload_n hx hb d_X_first_18 rfl (lv_at hl 0 rfl) ?_
    refine xg_X hx hb hts hown hK hP 0 rfl 4 (by decide) k_41 rfl d_X_first_19 ?_
    refine xk_ald hx hb hK hP 5 rfl fr (by omega) (by decide) d_X_first_22 ?_
    exact hret 23 _ _ _ (key fr) (vl, bf, bh, fr, bk, n, us, fe, key, sm, gr, root) d_X_first_23 ⟨hf.1.symm, lst, o, fl, rm_J_up hJ, rfl⟩ hP hD hS
  · have ho := (rm_empty hJ).1 c0
    refine lv_iconst (v := 0) hx hb d_X_first_7 (by decide) ?_
    refine lv_goto (tgt := 23) hx hb d_X_first_8 (by decide) ?_
    exact hret 23 _ _ _ 0 (vl, bf, bh, fr, bk, n, us, fe, key, sm, gr, root) d_X_first_23 ⟨by rw [ho]; rfl, lst, o, fl, rm_J_up hJ, rfl⟩ hP hD hS
set_option maxHeartbeats 4000000 in
set_option maxRecDepth 100000 in
/-- X_last -/
theorem c_X_last (l : Launch) (D : va_G) (cA : ClassId) (hX h qv qb qh qk qs qg hz : Nat) (vl : Nat → Int32) (bf bh : Nat → Nat) (fr bk n us fe : Nat) (key : Nat → Int32) (sm gr : Nat → Nat) (root : Nat)  (N : Nat) (M : List (Int32 × Int32)) (hI : rm_I N vl bf bh fr bk n us fe key sm gr root M) (hN : N < 4000) : xm_I l D cA y_X_last b_X_last 1 ({ frames := 0, cells := 0, slots := 0, locals := 0 }) [.ref hX] (ce_X cA hX h qv qb qh qk qs qg vl bf bh fr bk n us fe key sm gr root) hz (fun (r : Int32) (u : SX) => r = sp_lk M ∧ rm_I (N + 1) u.1 u.2.1 u.2.2.1 u.2.2.2.1 u.2.2.2.2.1 u.2.2.2.2.2.1 u.2.2.2.2.2.2.1 u.2.2.2.2.2.2.2.1 u.2.2.2.2.2.2.2.2.1 u.2.2.2.2.2.2.2.2.2.1 u.2.2.2.2.2.2.2.2.2.2.1 u.2.2.2.2.2.2.2.2.2.2.2 M) (fun u : SX => ce_X cA hX h qv qb qh qk qs qg u.1 u.2.1 u.2.2.1 u.2.2.2.1 u.2.2.2.2.1 u.2.2.2.2.2.1 u.2.2.2.2.2.2.1 u.2.2.2.2.2.2.2.1 u.2.2.2.2.2.2.2.2.1 u.2.2.2.2.2.2.2.2.2.1 u.2.2.2.2.2.2.2.2.2.2.1 u.2.2.2.2.2.2.2.2.2.2.2) := by
  refine xm_I_of (by decide) (Nat.le_of_ble_eq_true rfl) ?_
  intro p e s m below meth c A Q ls hx hb hml hown hts hl hP hK hD hS hA hret
  have hown : s.vm.findClass "RecentMap" = some m.cls := hown
  have hl : lv_has ls 1 [(0, .ref hX)] := hl
  obtain ⟨lst, o, fl, hJ, rfl⟩ := hI
  obtain ⟨b1, b2, b3, b4, b5, b6, b7⟩ := rm_J_b hJ hN
  have hz := rm_J_z hJ
  refine lv_aload_n hx hb d_X_last_0 rfl (lv_at hl 0 rfl) ?_
  refine xg_X hx hb hts hown hK hP 0 rfl 5 (by decide) k_42 rfl d_X_last_1 ?_
  refine xn_ifne hx hb bk (by omega) (tgt := 11) d_X_last_4 (by decide) (fun c0 => ?_) (fun c0 => ?_)
  · have hf := rm_last (vl := vl) hJ c0
    refine lv_aload_n hx hb d_X_last_11 rfl (lv_at hl 0 rfl) ?_
    refine xg_X hx hb hts hown hK hP 0 rfl 0 (by decide) k_37 rfl d_X_last_12 ?_
    refine xg_T hx hb hts hown hK hP 4 rfl 0 (by decide) k_28 rfl d_X_last_15 ?_
    refine lv_aload_n hx hb d_X_last_18 rfl (lv_at hl 0 rfl) ?_
    refine xg_X hx hb hts hown hK hP 0 rfl 5 (by decide) k_42 rfl d_X_last_19 ?_
    refine xk_ald hx hb hK hP 5 rfl bk (by omega) (by decide) d_X_last_22 ?_
    exact hret 23 _ _ _ (key bk) (vl, bf, bh, fr, bk, n, us, fe, key, sm, gr, root) d_X_last_23 ⟨hf.1.symm, lst, o, fl, rm_J_up hJ, rfl⟩ hP hD hS
  · have ho := (rm_empty hJ).2 c0
    refine lv_iconst (v := 0) hx hb d_X_last_7 (by decide) ?_
    refine lv_goto (tgt := 23) hx hb d_X_last_8 (by decide) ?_
    exact hret 23 _ _ _ 0 (vl, bf, bh, fr, bk, n, us, fe, key, sm, gr, root) d_X_last_23 ⟨by rw [ho]; rfl, lst, o, fl, rm_J_up hJ, rfl⟩ hP hD hS
set_option maxHeartbeats 4000000 in
set_option maxRecDepth 100000 in
/-- size -/
theorem c_X_size (l : Launch) (D : va_G) (cA : ClassId) (hX h qv qb qh qk qs qg hz : Nat) (vl : Nat → Int32) (bf bh : Nat → Nat) (fr bk n us fe : Nat) (key : Nat → Int32) (sm gr : Nat → Nat) (root : Nat)  (N : Nat) (M : List (Int32 × Int32)) (hI : rm_I N vl bf bh fr bk n us fe key sm gr root M) (hN : N < 4000) : xm_I l D cA y_X_size b_X_size 1 ({ frames := 0, cells := 0, slots := 0, locals := 0 }) [.ref hX] (ce_X cA hX h qv qb qh qk qs qg vl bf bh fr bk n us fe key sm gr root) hz (fun (r : Int32) (u : SX) => r = nI M.length ∧ rm_I (N + 1) u.1 u.2.1 u.2.2.1 u.2.2.2.1 u.2.2.2.2.1 u.2.2.2.2.2.1 u.2.2.2.2.2.2.1 u.2.2.2.2.2.2.2.1 u.2.2.2.2.2.2.2.2.1 u.2.2.2.2.2.2.2.2.2.1 u.2.2.2.2.2.2.2.2.2.2.1 u.2.2.2.2.2.2.2.2.2.2.2 M) (fun u : SX => ce_X cA hX h qv qb qh qk qs qg u.1 u.2.1 u.2.2.1 u.2.2.2.1 u.2.2.2.2.1 u.2.2.2.2.2.1 u.2.2.2.2.2.2.1 u.2.2.2.2.2.2.2.1 u.2.2.2.2.2.2.2.2.1 u.2.2.2.2.2.2.2.2.2.1 u.2.2.2.2.2.2.2.2.2.2.1 u.2.2.2.2.2.2.2.2.2.2.2) := by
  refine xm_I_of (by decide) (Nat.le_of_ble_eq_true rfl) ?_
  intro p e s m below meth c A Q ls hx hb hml hown hts hl hP hK hD hS hA hret
  have hown : s.vm.findClass "RecentMap" = some m.cls := hown
  have hl : lv_has ls 1 [(0, .ref hX)] := hl
  obtain ⟨lst, o, fl, hJ, rfl⟩ := hI
  obtain ⟨b1, b2, b3, b4, b5, b6, b7⟩ := rm_J_b hJ hN
  have hz := rm_J_z hJ
  refine lv_aload_n hx hb d_X_size_0 rfl (lv_at hl 0 rfl) ?_
  refine xg_X hx hb hts hown hK hP 0 rfl 6 (by decide) k_43 rfl d_X_size_1 ?_
  exact hret 4 _ _ _ (nI n) (vl, bf, bh, fr, bk, n, us, fe, key, sm, gr, root) d_X_size_4 ⟨by rw [b3]; simp [rm_M], lst, o, fl, rm_J_up hJ, rfl⟩ hP hD hS
set_option maxHeartbeats 4000000 in
set_option maxRecDepth 100000 in
/-- clear -/
theorem c_X_clear (l : Launch) (D : va_G) (cA : ClassId) (hX h qv qb qh qk qs qg hz : Nat) (vl : Nat → Int32) (bf bh : Nat → Nat) (fr bk n us fe : Nat) (key : Nat → Int32) (sm gr : Nat → Nat) (root : Nat)  (N : Nat) (M : List (Int32 × Int32)) (hI : rm_I N vl bf bh fr bk n us fe key sm gr root M) (hN : N < 4000) : xm_V l D cA y_X_clear b_X_clear 1 ({ frames := 1, cells := 0, slots := 0, locals := 20 }) [.ref hX] (ce_X cA hX h qv qb qh qk qs qg vl bf bh fr bk n us fe key sm gr root) hz (fun (u : SX) => rm_I (N + 1) u.1 u.2.1 u.2.2.1 u.2.2.2.1 u.2.2.2.2.1 u.2.2.2.2.2.1 u.2.2.2.2.2.2.1 u.2.2.2.2.2.2.2.1 u.2.2.2.2.2.2.2.2.1 u.2.2.2.2.2.2.2.2.2.1 u.2.2.2.2.2.2.2.2.2.2.1 u.2.2.2.2.2.2.2.2.2.2.2 ([])) (fun u : SX => ce_X cA hX h qv qb qh qk qs qg u.1 u.2.1 u.2.2.1 u.2.2.2.1 u.2.2.2.2.1 u.2.2.2.2.2.1 u.2.2.2.2.2.2.1 u.2.2.2.2.2.2.2.1 u.2.2.2.2.2.2.2.2.1 u.2.2.2.2.2.2.2.2.2.1 u.2.2.2.2.2.2.2.2.2.2.1 u.2.2.2.2.2.2.2.2.2.2.2) := by
  refine xm_V_of (by decide) (Nat.le_of_ble_eq_true rfl) ?_
  intro p e s m below meth c A Q ls hx hb hml hown hts hl hP hK hD hS hA hret
  have hown : s.vm.findClass "RecentMap" = some m.cls := hown
  have hl : lv_has ls 1 [(0, .ref hX)] := hl
  refine lv_aload_n hx hb d_X_clear_0 rfl (lv_at hl 0 rfl) ?_
  refine xg_X hx hb hts hown hK hP 0 rfl 0 (by decide) k_37 rfl d_X_clear_1 ?_
  refine xc_V (n := 0) (As := []) (rest := []) (wr := ce_R cA hX h qv qb qh vl bf bh fr bk n us fe) (wc := ce_T cA h qk qs qg key sm gr root) hx hb hml hown hts (c_T_clear l D cA h qk qs qg _ key sm gr root) (xc_G (fun _ h => .tail _ h) (.tail _ k_131) k_132 k_133 k_14 k_134) (by decide +kernel) ⟨rfl, rfl⟩ ⟨Nat.le_of_ble_eq_true rfl, Nat.le_of_ble_eq_true rfl⟩ hK hP hD hS hA [4, 5, 6, 7] [0, 1, 2, 3] rfl rfl rfl rfl rfl (by decide) rfl rfl rfl rfl hl.1 rfl (Nat.le_of_ble_eq_true rfl) d_X_clear_4 ⟨Nat.zero_le _, Nat.zero_le _⟩ (fun u H locs hw hP hD hS => ?_)
  have hP : va_P D classes (ce_X cA hX h qv qb qh qk qs qg vl bf bh fr bk n us fe key sm gr 0) H := hP
  have hD : va_D A (ce_X cA hX h qv qb qh qk qs qg vl bf bh fr bk n us fe key sm gr 0) := hD
  refine lv_aload_n hx hb d_X_clear_7 rfl (lv_at hl 0 rfl) ?_
  refine lv_iconst (v := 0) hx hb d_X_clear_8 (by decide) ?_
  refine xp_X hx hb hts hown hK hP hD hS 0 rfl 4 (by decide) k_41 (.int (nI 0)) rfl rfl rfl (Nat.le_of_ble_eq_true rfl) d_X_clear_9 (fun H locs hP hD hS => ?_)
  have hP : va_P D classes (ce_X cA hX h qv qb qh qk qs qg vl bf bh 0 bk n us fe key sm gr 0) H := hP
  have hD : va_D A (ce_X cA hX h qv qb qh qk qs qg vl bf bh 0 bk n us fe key sm gr 0) := hD
  refine lv_aload_n hx hb d_X_clear_12 rfl (lv_at hl 0 rfl) ?_
  refine lv_iconst (v := 0) hx hb d_X_clear_13 (by decide) ?_
  refine xp_X hx hb hts hown hK hP hD hS 0 rfl 5 (by decide) k_42 (.int (nI 0)) rfl rfl rfl (Nat.le_of_ble_eq_true rfl) d_X_clear_14 (fun H locs hP hD hS => ?_)
  have hP : va_P D classes (ce_X cA hX h qv qb qh qk qs qg vl bf bh 0 0 n us fe key sm gr 0) H := hP
  have hD : va_D A (ce_X cA hX h qv qb qh qk qs qg vl bf bh 0 0 n us fe key sm gr 0) := hD
  refine lv_aload_n hx hb d_X_clear_17 rfl (lv_at hl 0 rfl) ?_
  refine lv_iconst (v := 0) hx hb d_X_clear_18 (by decide) ?_
  refine xp_X hx hb hts hown hK hP hD hS 0 rfl 6 (by decide) k_43 (.int (nI 0)) rfl rfl rfl (Nat.le_of_ble_eq_true rfl) d_X_clear_19 (fun H locs hP hD hS => ?_)
  have hP : va_P D classes (ce_X cA hX h qv qb qh qk qs qg vl bf bh 0 0 0 us fe key sm gr 0) H := hP
  have hD : va_D A (ce_X cA hX h qv qb qh qk qs qg vl bf bh 0 0 0 us fe key sm gr 0) := hD
  refine lv_aload_n hx hb d_X_clear_22 rfl (lv_at hl 0 rfl) ?_
  refine lv_iconst (v := 0) hx hb d_X_clear_23 (by decide) ?_
  refine xp_X hx hb hts hown hK hP hD hS 0 rfl 7 (by decide) k_44 (.int (nI 0)) rfl rfl rfl (Nat.le_of_ble_eq_true rfl) d_X_clear_24 (fun H locs hP hD hS => ?_)
  have hP : va_P D classes (ce_X cA hX h qv qb qh qk qs qg vl bf bh 0 0 0 0 fe key sm gr 0) H := hP
  have hD : va_D A (ce_X cA hX h qv qb qh qk qs qg vl bf bh 0 0 0 0 fe key sm gr 0) := hD
  refine lv_aload_n hx hb d_X_clear_27 rfl (lv_at hl 0 rfl) ?_
  refine lv_iconst (v := 0) hx hb d_X_clear_28 (by decide) ?_
  refine xp_X hx hb hts hown hK hP hD hS 0 rfl 8 (by decide) k_45 (.int (nI 0)) rfl rfl rfl (Nat.le_of_ble_eq_true rfl) d_X_clear_29 (fun H locs hP hD hS => ?_)
  have hP : va_P D classes (ce_X cA hX h qv qb qh qk qs qg vl bf bh 0 0 0 0 0 key sm gr 0) H := hP
  have hD : va_D A (ce_X cA hX h qv qb qh qk qs qg vl bf bh 0 0 0 0 0 key sm gr 0) := hD
  exact hret 32 _ _ _ (vl, bf, bh, 0, 0, 0, 0, 0, key, sm, gr, 0) d_X_clear_32 (rm_clear (N + 1) key vl sm gr bf bh) hP hD hS
end
section
/-! REFERENCE: contracts of place, cut, lay (printed by gen/model.py) -/
set_option maxHeartbeats 4000000 in
set_option maxRecDepth 100000 in
/-- place of the reference -/
theorem c_M_place (l : Launch) (D : va_G) (cA : ClassId) (hM qa qc hz : Nat) (ks vs : Nat → Int32) (n : Nat) (k : Int32) (hn : n < 4000) : xm_I l D cA y_M_place b_M_place 3 ({ frames := 0, cells := 0, slots := 0, locals := 0 }) [.ref hM, .int k] (ce_M cA hM qa qc ks vs n) hz (fun (r : Int32) (_ : Unit) => ∃ i : Nat, r = nI i ∧ ml_P ks k n i) (fun _ : Unit => ce_M cA hM qa qc ks vs n) := by
  refine xm_I_of (by decide) (Nat.le_of_ble_eq_true rfl) ?_
  intro p e s m below meth c A Q ls hx hb hml hown hts hl hP hK hD hS hA hret
  have hown : s.vm.findClass "RecentMapModel" = some m.cls := hown
  have hl : lv_has ls 3 [(0, .ref hM), (1, .int k)] := hl
  have hL : ∀ (d i : Nat) (ls : Array Slot), i + d = n → (∀ j, j < i → ks j ≠ k) → lv_has ls 3 [(0, .ref hM), (1, .int k), (2, .int (nI i))] → W p l e ({ frames := 0, cells := 0, slots := 0, locals := 0 }) s m [.ref hM, .int k].toArray below meth c s.heap [] 0 0 Q (F0 m 2 ls []) := by
    intro d
    induction d with
    | zero =>
      intro i ls hi hj hl
      refine lv_iload_n hx hb d_M_place_2 rfl (lv_at hl 2 rfl) ?_
      refine lv_aload_n hx hb d_M_place_3 rfl (lv_at hl 0 rfl) ?_
      refine xg_M hx hb hts hown hK hP 0 rfl 2 (by decide) k_141 rfl d_M_place_4 ?_
      refine xn_ge hx hb i n (by omega) (by omega) (tgt := 27) d_M_place_7 (by decide) (fun c1 => ?_) (fun c1 => ?_)
      · refine lv_iload_n hx hb d_M_place_27 rfl (lv_at hl 2 rfl) ?_
        exact hret 28 _ _ _ (nI i) () d_M_place_28 ⟨i, rfl, by omega, hj, fun q => by omega⟩ hP hD hS
      · exact absurd c1 (by omega)
    | succ d ih =>
      intro i ls hi hj hl
      refine lv_iload_n hx hb d_M_place_2 rfl (lv_at hl 2 rfl) ?_
      refine lv_aload_n hx hb d_M_place_3 rfl (lv_at hl 0 rfl) ?_
      refine xg_M hx hb hts hown hK hP 0 rfl 2 (by decide) k_141 rfl d_M_place_4 ?_
      refine xn_ge hx hb i n (by omega) (by omega) (tgt := 27) d_M_place_7 (by decide) (fun c1 => ?_) (fun c1 => ?_)
      · exact absurd c1 (by omega)
      · refine lv_aload_n hx hb d_M_place_10 rfl (lv_at hl 0 rfl) ?_
        refine xg_M hx hb hts hown hK hP 0 rfl 0 (by decide) k_139 rfl d_M_place_11 ?_
        refine lv_iload_n hx hb d_M_place_14 rfl (lv_at hl 2 rfl) ?_
        refine xk_ald hx hb hK hP 1 rfl i (by omega) (by decide) d_M_place_15 ?_
        refine lv_iload_n hx hb d_M_place_16 rfl (lv_at hl 1 rfl) ?_
        refine lv_icmp_eq (tgt := 27) hx hb d_M_place_17 (by decide) (fun ck => ?_) (fun ck => ?_)
        · refine lv_iload_n hx hb d_M_place_27 rfl (lv_at hl 2 rfl) ?_
          exact hret 28 _ _ _ (nI i) () d_M_place_28 ⟨i, rfl, by omega, hj, fun _ => ck⟩ hP hD hS
        · refine lv_iload_n hx hb d_M_place_20 rfl (lv_at hl 2 rfl) ?_
          refine lv_iconst (v := 1) hx hb d_M_place_21 (by decide) ?_
          refine lv_iadd hx hb d_M_place_22 ?_
          refine xi_top (nI (i + 1)) (nI_1 _) ?_
          refine lv_istore_n (lv' := [(2, .int (nI (i + 1))), (0, .ref hM), (1, .int k)]) hx hb d_M_place_23 rfl hl (by decide) rfl (fun ls hl => ?_)
          refine lv_goto (tgt := 2) hx hb d_M_place_24 (by decide) ?_
          exact ih (i + 1) _ (by omega) (fun j hj1 => by
            by_cases e : j = i
            · rw [e]; exact ck
            · exact hj j (by omega)) (lv_sub hl [1, 2, 0] rfl)
  refine lv_iconst (v := 0) hx hb d_M_place_0 (by decide) ?_
  refine lv_istore_n (lv' := [(2, .int 0), (0, .ref hM), (1, .int k)]) hx hb d_M_place_1 rfl hl (by decide) rfl (fun ls hl => ?_)
  exact hL n 0 _ (by omega) (fun j hj => by omega) (lv_sub hl [1, 2, 0] rfl)
set_option maxHeartbeats 4000000 in
set_option maxRecDepth 100000 in
/-- cut of the reference -/
theorem c_M_cut (l : Launch) (D : va_G) (cA : ClassId) (hM qa qc hz : Nat) (ks vs : Nat → Int32) (n : Nat) (i : Nat) (hn : n < 4000) (hi : i < n) : xm_I l D cA y_M_cut b_M_cut 4 ({ frames := 0, cells := 0, slots := 0, locals := 0 }) [.ref hM, .int (nI i)] (ce_M cA hM qa qc ks vs n) hz (fun (r : Int32) (u : (Nat → Int32) × (Nat → Int32)) => r = vs i ∧ ml_L u.1 u.2 0 (n - 1) = ml_L ks vs 0 i ++ ml_L ks vs (i + 1) (n - 1 - i)) (fun u : (Nat → Int32) × (Nat → Int32) => ce_M cA hM qa qc u.1 u.2 (n - 1)) := by
  refine xm_I_of (by decide) (Nat.le_of_ble_eq_true rfl) ?_
  intro p e s m below meth c A Q ls hx hb hml hown hts hl hP hK hD hS hA hret
  have hown : s.vm.findClass "RecentMapModel" = some m.cls := hown
  have hl : lv_has ls 4 [(0, .ref hM), (1, .int (nI i))] := hl
  have hL : ∀ (d j : Nat), ∀ (ks1 vs1 : Nat → Int32) (H : Heap) (locs : List Loc) (ls : Array Slot), va_P D classes (ce_M cA hM qa qc ks1 vs1 (n - 1)) H → va_D A (ce_M cA hM qa qc ks1 vs1 (n - 1)) → va_S A s.heap H locs → j + d = n - 1 → i ≤ j → (∀ x, ks1 x = (if i ≤ x ∧ x < j then ks (x + 1) else ks x) ∧ vs1 x = (if i ≤ x ∧ x < j then vs (x + 1) else vs x)) → lv_has ls 4 [(0, .ref hM), (1, .int (nI i)), (2, .int (vs i)), (3, .int (nI j))] → W p l e ({ frames := 0, cells := 0, slots := 0, locals := 0 }) s m [.ref hM, .int (nI i)].toArray below meth c H locs 0 0 Q (F0 m 19 ls []) := by
    intro d
    induction d with
    | zero =>
      intro j ks1 vs1 H locs ls hP hD hS hj hij hv hl
      refine lv_iload_n hx hb d_M_cut_19 rfl (lv_at hl 3 rfl) ?_
      refine lv_aload_n hx hb d_M_cut_20 rfl (lv_at hl 0 rfl) ?_
      refine xg_M hx hb hts hown hK hP 0 rfl 2 (by decide) k_141 rfl d_M_cut_21 ?_
      refine xn_ge hx hb j (n - 1) (by omega) (by omega) (tgt := 61) d_M_cut_24 (by decide) (fun c1 => ?_) (fun c1 => ?_)
      · refine lv_iload_n hx hb d_M_cut_61 rfl (lv_at hl 2 rfl) ?_
        exact hret 62 _ _ _ (vs i) (ks1, vs1) d_M_cut_62 ⟨rfl, ml_cut hi (fun z hz1 => by
                  have q := hv z
                  have e : (i ≤ z ∧ z < j) = (i ≤ z) := by
                    apply propext
                    omega
                  simp only [e] at q
                  exact q)⟩ hP hD hS
      · exact absurd c1 (by omega)
    | succ d ih =>
      intro j ks1 vs1 H locs ls hP hD hS hj hij hv hl
      refine lv_iload_n hx hb d_M_cut_19 rfl (lv_at hl 3 rfl) ?_
      refine lv_aload_n hx hb d_M_cut_20 rfl (lv_at hl 0 rfl) ?_
      refine xg_M hx hb hts hown hK hP 0 rfl 2 (by decide) k_141 rfl d_M_cut_21 ?_
      refine xn_ge hx hb j (n - 1) (by omega) (by omega) (tgt := 61) d_M_cut_24 (by decide) (fun c1 => ?_) (fun c1 => ?_)
      · exact absurd c1 (by omega)
      · refine lv_aload_n hx hb d_M_cut_27 rfl (lv_at hl 0 rfl) ?_
        refine xg_M hx hb hts hown hK hP 0 rfl 0 (by decide) k_139 rfl d_M_cut_28 ?_
        refine lv_iload_n hx hb d_M_cut_31 rfl (lv_at hl 3 rfl) ?_
        refine lv_aload_n hx hb d_M_cut_32 rfl (lv_at hl 0 rfl) ?_
        refine xg_M hx hb hts hown hK hP 0 rfl 0 (by decide) k_139 rfl d_M_cut_33 ?_
        refine lv_iload_n hx hb d_M_cut_36 rfl (lv_at hl 3 rfl) ?_
        refine lv_iconst (v := 1) hx hb d_M_cut_37 (by decide) ?_
        refine lv_iadd hx hb d_M_cut_38 ?_
        refine xi_top (nI (j + 1)) (nI_1 _) ?_
        refine xk_ald hx hb hK hP 1 rfl (j + 1) (by omega) (by decide) d_M_cut_39 ?_
        refine xk_ast hx hb hK hP hD hS 1 rfl j (ks1 (j + 1)) (by omega) (by decide) d_M_cut_40 (fun H locs hP hD hS => ?_)
        have hP : va_P D classes (ce_M cA hM qa qc (va_up ks1 j (ks1 (j + 1))) vs1 (n - 1)) H := hP
        have hD : va_D A (ce_M cA hM qa qc (va_up ks1 j (ks1 (j + 1))) vs1 (n - 1)) := hD
        refine lv_aload_n hx hb d_M_cut_41 rfl (lv_at hl 0 rfl) ?_
        refine xg_M hx hb hts hown hK hP 0 rfl 1 (by decide) k_140 rfl d_M_cut_42 ?_
        refine lv_iload_n hx hb d_M_cut_45 rfl (lv_at hl 3 rfl) ?_
        refine lv_aload_n hx hb d_M_cut_46 rfl (lv_at hl 0 rfl) ?_
        refine xg_M hx hb hts hown hK hP 0 rfl 1 (by decide) k_140 rfl d_M_cut_47 ?_
        refine lv_iload_n hx hb d_M_cut_50 rfl (lv_at hl 3 rfl) ?_
        refine lv_iconst (v := 1) hx hb d_M_cut_51 (by decide) ?_
        refine lv_iadd hx hb d_M_cut_52 ?_
        refine xi_top (nI (j + 1)) (nI_1 _) ?_
        refine xk_ald hx hb hK hP 2 rfl (j + 1) (by omega) (by decide) d_M_cut_53 ?_
        refine xk_ast hx hb hK hP hD hS 2 rfl j (vs1 (j + 1)) (by omega) (by decide) d_M_cut_54 (fun H locs hP hD hS => ?_)
        have hP : va_P D classes (ce_M cA hM qa qc (va_up ks1 j (ks1 (j + 1))) (va_up vs1 j (vs1 (j + 1))) (n - 1)) H := hP
        have hD : va_D A (ce_M cA hM qa qc (va_up ks1 j (ks1 (j + 1))) (va_up vs1 j (vs1 (j + 1))) (n - 1)) := hD
        refine lv_iinc (v := nI (j + 1)) (lv' := [(3, .int (nI (j + 1))), (0, .ref hM), (1, .int (nI i)), (2, .int (vs i))]) hx hb d_M_cut_55 hl (k := 3) rfl (by rw [show Int32.ofInt 1 = 1 from rfl]; exact nI_1 _) (by decide) rfl (fun ls hl => ?_)
        refine lv_goto (tgt := 19) hx hb d_M_cut_58 (by decide) ?_
        refine ih (j + 1) _ _ _ _ _ hP hD hS (by omega) (by omega) (fun x => ?_) (lv_sub hl [1, 2, 3, 0] rfl)
        have q1 := hv x
        have q2 := hv (j + 1)
        by_cases ex : x = j
        · subst ex
          exact ⟨by rw [va_up_self, q2.1, if_neg (by omega), if_pos (by omega)], by rw [va_up_self, q2.2, if_neg (by omega), if_pos (by omega)]⟩
        · have e : (i ≤ x ∧ x < j) = (i ≤ x ∧ x < j + 1) := by
            apply propext
            omega
          exact ⟨by rw [va_up_ne _ _ ex, q1.1]; simp only [e], by rw [va_up_ne _ _ ex, q1.2]; simp only [e]⟩
  refine lv_aload_n hx hb d_M_cut_0 rfl (lv_at hl 0 rfl) ?_
  refine xg_M hx hb hts hown hK hP 0 rfl 1 (by decide) k_140 rfl d_M_cut_1 ?_
  refine lv_iload_n hx hb d_M_cut_4 rfl (lv_at hl 1 rfl) ?_
  refine xk_ald hx hb hK hP 2 rfl i (by omega) (by decide) d_M_cut_5 ?_
  refine lv_istore_n (lv' := [(2, .int (vs i)), (0, .ref hM), (1, .int (nI i))]) hx hb d_M_cut_6 rfl hl (by decide) rfl (fun ls hl => ?_)
  refine lv_aload_n hx hb d_M_cut_7 rfl (lv_at hl 1 rfl) ?_
  refine lv_aload_n hx hb d_M_cut_8 rfl (lv_at hl 1 rfl) ?_
  refine xg_M hx hb hts hown hK hP 0 rfl 2 (by decide) k_141 rfl d_M_cut_9 ?_
  refine lv_iconst (v := 1) hx hb d_M_cut_12 (by decide) ?_
  refine lv_isub hx hb d_M_cut_13 ?_
  refine xi_top (nI (n - 1)) (pk_sub (b := 1) (by omega)) ?_
  refine xp_M hx hb hts hown hK hP hD hS 0 rfl 2 (by decide) k_141 (.int (nI (n - 1))) rfl rfl rfl (Nat.le_of_ble_eq_true rfl) d_M_cut_14 (fun H locs hP hD hS => ?_)
  have hP : va_P D classes (ce_M cA hM qa qc ks vs (n - 1)) H := hP
  have hD : va_D A (ce_M cA hM qa qc ks vs (n - 1)) := hD
  refine lv_iload_n hx hb d_M_cut_17 rfl (lv_at hl 2 rfl) ?_
  refine lv_istore_n (lv' := [(3, .int (nI i)), (2, .int (vs i)), (0, .ref hM), (1, .int (nI i))]) hx hb d_M_cut_18 rfl hl (by decide) rfl (fun ls hl => ?_)
  exact hL (n - 1 - i) i ks vs _ _ _ hP hD hS (by omega) (Nat.le_refl i) (fun x => by
    rw [if_neg (by omega), if_neg (by omega)]
    exact ⟨rfl, rfl⟩) (lv_sub hl [2, 3, 1, 0] rfl)
set_option maxHeartbeats 4000000 in
set_option maxRecDepth 100000 in
/-- lay of the reference -/
theorem c_M_lay (l : Launch) (D : va_G) (cA : ClassId) (hM qa qc hz : Nat) (ks vs : Nat → Int32) (n : Nat) (i : Nat) (k v : Int32) (hn : n < 4000) (hi : i ≤ n) : xm_V l D cA y_M_lay b_M_lay 5 ({ frames := 0, cells := 0, slots := 0, locals := 0 }) [.ref hM, .int (nI i), .int k, .int v] (ce_M cA hM qa qc ks vs n) hz (fun (u : (Nat → Int32) × (Nat → Int32)) => ml_L u.1 u.2 0 (n + 1) = ml_L ks vs 0 i ++ (k, v) :: ml_L ks vs i (n - i)) (fun u : (Nat → Int32) × (Nat → Int32) => ce_M cA hM qa qc u.1 u.2 (n + 1)) := by
  refine xm_V_of (by decide) (Nat.le_of_ble_eq_true rfl) ?_
  intro p e s m below meth c A Q ls hx hb hml hown hts hl hP hK hD hS hA hret
  have hown : s.vm.findClass "RecentMapModel" = some m.cls := hown
  have hl : lv_has ls 5 [(0, .ref hM), (1, .int (nI i)), (2, .int k), (3, .int v)] := hl
  have hL : ∀ (d j : Nat), ∀ (ks1 vs1 : Nat → Int32) (H : Heap) (locs : List Loc) (ls : Array Slot), va_P D classes (ce_M cA hM qa qc ks1 vs1 n) H → va_D A (ce_M cA hM qa qc ks1 vs1 n) → va_S A s.heap H locs → i + d = j → j ≤ n → (∀ x, ks1 x = (if j < x ∧ x ≤ n then ks (x - 1) else ks x) ∧ vs1 x = (if j < x ∧ x ≤ n then vs (x - 1) else vs x)) → lv_has ls 5 [(0, .ref hM), (1, .int (nI i)), (2, .int k), (3, .int v), (4, .int (nI j))] → W p l e ({ frames := 0, cells := 0, slots := 0, locals := 0 }) s m [.ref hM, .int (nI i), .int k, .int v].toArray below meth c H locs 0 0 Q (F0 m 6 ls []) := by
    intro d
    induction d with
    | zero =>
      intro j ks1 vs1 H locs ls hP hD hS hj hij hv hl
      refine lv_iload hx hb d_M_lay_6 (lv_at hl 4 rfl) ?_
      refine lv_iload_n hx hb d_M_lay_8 rfl (lv_at hl 1 rfl) ?_
      refine xn_le hx hb j i (by omega) (by omega) (tgt := 50) d_M_lay_9 (by decide) (fun c1 => ?_) (fun c1 => ?_)
      · refine lv_aload_n hx hb d_M_lay_50 rfl (lv_at hl 0 rfl) ?_
        refine xg_M hx hb hts hown hK hP 0 rfl 0 (by decide) k_139 rfl d_M_lay_51 ?_
        refine lv_iload_n hx hb d_M_lay_54 rfl (lv_at hl 1 rfl) ?_
        refine lv_iload_n hx hb d_M_lay_55 rfl (lv_at hl 2 rfl) ?_
        refine xk_ast hx hb hK hP hD hS 1 rfl i k (by omega) (by decide) d_M_lay_56 (fun H locs hP hD hS => ?_)
        have hP : va_P D classes (ce_M cA hM qa qc (va_up ks1 i k) vs1 n) H := hP
        have hD : va_D A (ce_M cA hM qa qc (va_up ks1 i k) vs1 n) := hD
        refine lv_aload_n hx hb d_M_lay_57 rfl (lv_at hl 0 rfl) ?_
        refine xg_M hx hb hts hown hK hP 0 rfl 1 (by decide) k_140 rfl d_M_lay_58 ?_
        refine lv_iload_n hx hb d_M_lay_61 rfl (lv_at hl 1 rfl) ?_
        refine lv_iload_n hx hb d_M_lay_62 rfl (lv_at hl 3 rfl) ?_
        refine xk_ast hx hb hK hP hD hS 2 rfl i v (by omega) (by decide) d_M_lay_63 (fun H locs hP hD hS => ?_)
        have hP : va_P D classes (ce_M cA hM qa qc (va_up ks1 i k) (va_up vs1 i v) n) H := hP
        have hD : va_D A (ce_M cA hM qa qc (va_up ks1 i k) (va_up vs1 i v) n) := hD
        refine lv_aload_n hx hb d_M_lay_64 rfl (lv_at hl 0 rfl) ?_
        refine lv_aload_n hx hb d_M_lay_65 rfl (lv_at hl 0 rfl) ?_
        refine xg_M hx hb hts hown hK hP 0 rfl 2 (by decide) k_141 rfl d_M_lay_66 ?_
        refine lv_iconst (v := 1) hx hb d_M_lay_69 (by decide) ?_
        refine lv_iadd hx hb d_M_lay_70 ?_
        refine xi_top (nI (n + 1)) (nI_1 _) ?_
        refine xp_M hx hb hts hown hK hP hD hS 0 rfl 2 (by decide) k_141 (.int (nI (n + 1))) rfl rfl rfl (Nat.le_of_ble_eq_true rfl) d_M_lay_71 (fun H locs hP hD hS => ?_)
        have hP : va_P D classes (ce_M cA hM qa qc (va_up ks1 i k) (va_up vs1 i v) (n + 1)) H := hP
        have hD : va_D A (ce_M cA hM qa qc (va_up ks1 i k) (va_up vs1 i v) (n + 1)) := hD
        exact hret 74 _ _ _ (va_up ks1 i k, va_up vs1 i v) d_M_lay_74 (ml_lay (ks' := va_up ks1 i k) (vs' := va_up vs1 i v) hi (fun z hz1 => by
                  have q := hv z
                  by_cases ez : z = i
                  · rw [ez, va_up_self, va_up_self, if_pos rfl, if_pos rfl]
                    exact ⟨rfl, rfl⟩
                  · have e : (j < z ∧ z ≤ n) = (i < z) := by
                      apply propext
                      omega
                    rw [va_up_ne _ _ ez, va_up_ne _ _ ez, if_neg ez, if_neg ez, q.1, q.2]
                    exact ⟨by simp only [e], by simp only [e]⟩)) hP hD hS
      · exact absurd c1 (by omega)
    | succ d ih =>
      intro j ks1 vs1 H locs ls hP hD hS hj hij hv hl
      refine lv_iload hx hb d_M_lay_6 (lv_at hl 4 rfl) ?_
      refine lv_iload_n hx hb d_M_lay_8 rfl (lv_at hl 1 rfl) ?_
      refine xn_le hx hb j i (by omega) (by omega) (tgt := 50) d_M_lay_9 (by decide) (fun c1 => ?_) (fun c1 => ?_)
      · exact absurd c1 (by omega)
      · refine lv_aload_n hx hb d_M_lay_12 rfl (lv_at hl 0 rfl) ?_
        refine xg_M hx hb hts hown hK hP 0 rfl 0 (by decide) k_139 rfl d_M_lay_13 ?_
        refine lv_iload hx hb d_M_lay_16 (lv_at hl 4 rfl) ?_
        refine lv_aload_n hx hb d_M_lay_18 rfl (lv_at hl 0 rfl) ?_
        refine xg_M hx hb hts hown hK hP 0 rfl 0 (by decide) k_139 rfl d_M_lay_19 ?_
        refine lv_iload hx hb d_M_lay_22 (lv_at hl 4 rfl) ?_
        refine lv_iconst (v := 1) hx hb d_M_lay_24 (by decide) ?_
        refine lv_isub hx hb d_M_lay_25 ?_
        refine xi_top (nI (j - 1)) (pk_sub (b := 1) (by omega)) ?_
        refine xk_ald hx hb hK hP 1 rfl (j - 1) (by omega) (by decide) d_M_lay_26 ?_
        refine xk_ast hx hb hK hP hD hS 1 rfl j (ks1 (j - 1)) (by omega) (by decide) d_M_lay_27 (fun H locs hP hD hS => ?_)
        have hP : va_P D classes (ce_M cA hM qa qc (va_up ks1 j (ks1 (j - 1))) vs1 n) H := hP
        have hD : va_D A (ce_M cA hM qa qc (va_up ks1 j (ks1 (j - 1))) vs1 n) := hD
        refine lv_aload_n hx hb d_M_lay_28 rfl (lv_at hl 0 rfl) ?_
        refine xg_M hx hb hts hown hK hP 0 rfl 1 (by decide) k_140 rfl d_M_lay_29 ?_
        refine lv_iload hx hb d_M_lay_32 (lv_at hl 4 rfl) ?_
        refine lv_aload_n hx hb d_M_lay_34 rfl (lv_at hl 0 rfl) ?_
        refine xg_M hx hb hts hown hK hP 0 rfl 1 (by decide) k_140 rfl d_M_lay_35 ?_
        refine lv_iload hx hb d_M_lay_38 (lv_at hl 4 rfl) ?_
        refine lv_iconst (v := 1) hx hb d_M_lay_40 (by decide) ?_
        refine lv_isub hx hb d_M_lay_41 ?_
        refine xi_top (nI (j - 1)) (pk_sub (b := 1) (by omega)) ?_
        refine xk_ald hx hb hK hP 2 rfl (j - 1) (by omega) (by decide) d_M_lay_42 ?_
        refine xk_ast hx hb hK hP hD hS 2 rfl j (vs1 (j - 1)) (by omega) (by decide) d_M_lay_43 (fun H locs hP hD hS => ?_)
        have hP : va_P D classes (ce_M cA hM qa qc (va_up ks1 j (ks1 (j - 1))) (va_up vs1 j (vs1 (j - 1))) n) H := hP
        have hD : va_D A (ce_M cA hM qa qc (va_up ks1 j (ks1 (j - 1))) (va_up vs1 j (vs1 (j - 1))) n) := hD
        refine lv_iinc (v := nI (j - 1)) (lv' := [(4, .int (nI (j - 1))), (0, .ref hM), (1, .int (nI i)), (2, .int k), (3, .int v)]) hx hb d_M_lay_44 hl (k := 4) rfl (by rw [show Int32.ofInt (-1) = -1 from rfl]; exact sb_m1 (by omega)) (by decide) rfl (fun ls hl => ?_)
        refine lv_goto (tgt := 6) hx hb d_M_lay_47 (by decide) ?_
        refine ih (j - 1) _ _ _ _ _ hP hD hS (by omega) (by omega) (fun x => ?_) (lv_sub hl [1, 2, 3, 4, 0] rfl)
        have q1 := hv x
        have q2 := hv (j - 1)
        by_cases ex : x = j
        · subst ex
          exact ⟨by rw [va_up_self, q2.1, if_neg (by omega), if_pos (by omega)], by rw [va_up_self, q2.2, if_neg (by omega), if_pos (by omega)]⟩
        · have e : (j < x ∧ x ≤ n) = (j - 1 < x ∧ x ≤ n) := by
            apply propext
            omega
          exact ⟨by rw [va_up_ne _ _ ex, q1.1]; simp only [e], by rw [va_up_ne _ _ ex, q1.2]; simp only [e]⟩
  refine lv_aload_n hx hb d_M_lay_0 rfl (lv_at hl 0 rfl) ?_
  refine xg_M hx hb hts hown hK hP 0 rfl 2 (by decide) k_141 rfl d_M_lay_1 ?_
  refine lv_istore (lv' := [(4, .int (nI n)), (0, .ref hM), (1, .int (nI i)), (2, .int k), (3, .int v)]) hx hb d_M_lay_4 hl (by decide) rfl (fun ls hl => ?_)
  exact hL (n - i) n ks vs _ _ _ hP hD hS (by omega) (Nat.le_refl n) (fun x => by
    rw [if_neg (by omega), if_neg (by omega)]
    exact ⟨rfl, rfl⟩) (lv_sub hl [1, 2, 3, 4, 0] rfl)
end
section
/-! REFERENCE: contracts of what the law calls (printed by gen/model.py) -/
set_option maxHeartbeats 4000000 in
set_option maxRecDepth 100000 in
/-- put -/
theorem c_M_put (l : Launch) (D : va_G) (cA : ClassId) (hM qa qc hz : Nat) (ks vs : Nat → Int32) (n : Nat) (k v : Int32) (hn : n < 4000) : xm_I l D cA y_M_put b_M_put 5 ({ frames := 1, cells := 0, slots := 0, locals := 24 }) [.ref hM, .int k, .int v] (ce_M cA hM qa qc ks vs n) hz (fun (r : Int32) (u : (Nat → Int32) × (Nat → Int32) × Nat) => r = sp_get k (ml_L ks vs 0 n) ∧ ml_L u.1 u.2.1 0 u.2.2 = sp_set k v (ml_L ks vs 0 n) ∧ u.2.2 ≤ n + 1) (fun u : (Nat → Int32) × (Nat → Int32) × Nat => ce_M cA hM qa qc u.1 u.2.1 u.2.2) := by
  refine xm_I_of (by decide) (Nat.le_of_ble_eq_true rfl) ?_
  intro p e s m below meth c A Q ls hx hb hml hown hts hl hP hK hD hS hA hret
  have hown : s.vm.findClass "RecentMapModel" = some m.cls := hown
  have hl : lv_has ls 5 [(0, .ref hM), (1, .int k), (2, .int v)] := hl
  refine lv_aload_n hx hb d_M_put_0 rfl (lv_at hl 0 rfl) ?_
  refine lv_iload_n hx hb d_M_put_1 rfl (lv_at hl 1 rfl) ?_
  refine xc_I (n := 1) (As := [.int k]) (rest := []) (wr := []) (wc := ce_M cA hM qa qc ks vs n) hx hb hml hown hts (c_M_place l D cA hM qa qc _ ks vs n k hn) (xc_G (fun _ h => .tail _ h) (.tail _ k_148) k_149 k_8 k_15 k_150) (by decide +kernel) ⟨rfl, rfl⟩ ⟨Nat.le_of_ble_eq_true rfl, Nat.le_of_ble_eq_true rfl⟩ hK hP hD hS hA [0, 1, 2] [] rfl rfl rfl rfl rfl (by decide) rfl rfl rfl rfl hl.1 rfl (Nat.le_of_ble_eq_true rfl) d_M_put_2 ⟨Nat.zero_le _, Nat.zero_le _⟩ (fun r u H locs hw hP hD hS => ?_)
  obtain ⟨i, rfl, hp⟩ := hw
  have hin := hp.1
  have hP : va_P D classes (ce_M cA hM qa qc ks vs n) H := hP
  have hD : va_D A (ce_M cA hM qa qc ks vs n) := hD
  refine lv_istore_n (lv' := [(3, .int (nI i)), (0, .ref hM), (1, .int k), (2, .int v)]) hx hb d_M_put_5 rfl hl (by decide) rfl (fun ls hl => ?_)
  refine lv_iload_n hx hb d_M_put_6 rfl (lv_at hl 0 rfl) ?_
  refine lv_aload_n hx hb d_M_put_7 rfl (lv_at hl 1 rfl) ?_
  refine xg_M hx hb hts hown hK hP 0 rfl 2 (by decide) k_141 rfl d_M_put_8 ?_
  refine xn_ge hx hb i n (by omega) (by omega) (tgt := 32) d_M_put_11 (by decide) (fun c1 => ?_) (fun c1 => ?_)
  · have so := sp_out _ (ml_P_no (vs := vs) hp (by omega))
    refine lv_aload_n hx hb d_M_put_32 rfl (lv_at hl 1 rfl) ?_
    refine lv_aload_n hx hb d_M_put_33 rfl (lv_at hl 1 rfl) ?_
    refine xg_M hx hb hts hown hK hP 0 rfl 2 (by decide) k_141 rfl d_M_put_34 ?_
    refine lv_iload_n hx hb d_M_put_37 rfl (lv_at hl 2 rfl) ?_
    refine lv_iload_n hx hb d_M_put_38 rfl (lv_at hl 3 rfl) ?_
    refine xc_V (n := 3) (As := [.int (nI n), .int k, .int v]) (rest := []) (wr := []) (wc := ce_M cA hM qa qc ks vs n) hx hb hml hown hts (c_M_lay l D cA hM qa qc _ ks vs n n k v (by omega) (by omega)) (xc_G (fun _ h => .tail _ h) (.tail _ k_151) k_152 k_9 k_15 k_153) (by decide +kernel) ⟨rfl, rfl⟩ ⟨Nat.le_of_ble_eq_true rfl, Nat.le_of_ble_eq_true rfl⟩ hK hP hD hS hA [0, 1, 2] [] rfl rfl rfl rfl rfl (by decide) rfl rfl rfl rfl hl.1 rfl (Nat.le_of_ble_eq_true rfl) d_M_put_39 ⟨Nat.zero_le _, Nat.zero_le _⟩ (fun u H locs hw hP hD hS => ?_)
    obtain ⟨ks2, vs2⟩ := u
    dsimp only at hw
    have hP : va_P D classes (ce_M cA hM qa qc ks2 vs2 (n + 1)) H := hP
    have hD : va_D A (ce_M cA hM qa qc ks2 vs2 (n + 1)) := hD
    refine lv_iconst (v := 0) hx hb d_M_put_42 (by decide) ?_
    exact hret 43 _ _ _ 0 (ks2, vs2, n + 1) d_M_put_43 ⟨so.1.symm, by
          rw [so.2.2 v]
          have e : n - n = 0 := by omega
          rw [e] at hw
          exact hw, Nat.le_refl _⟩ hP hD hS
  · obtain ⟨eM, hno⟩ := ml_P_at (vs := vs) hp c1
    have sa := sp_at (k := k) (w := vs i) (ml_L ks vs (i + 1) (n - 1 - i)) _ hno
    rw [← eM] at sa
    refine lv_aload_n hx hb d_M_put_14 rfl (lv_at hl 1 rfl) ?_
    refine xg_M hx hb hts hown hK hP 0 rfl 1 (by decide) k_140 rfl d_M_put_15 ?_
    refine lv_iload_n hx hb d_M_put_18 rfl (lv_at hl 0 rfl) ?_
    refine xk_ald hx hb hK hP 2 rfl i (by omega) (by decide) d_M_put_19 ?_
    refine lv_istore (lv' := [(4, .int (vs i)), (3, .int (nI i)), (0, .ref hM), (1, .int k), (2, .int v)]) hx hb d_M_put_20 hl (by decide) rfl (fun ls hl => ?_)
    refine lv_aload_n hx hb d_M_put_22 rfl (lv_at hl 2 rfl) ?_
    refine xg_M hx hb hts hown hK hP 0 rfl 1 (by decide) k_140 rfl d_M_put_23 ?_
    refine lv_iload_n hx hb d_M_put_26 rfl (lv_at hl 1 rfl) ?_
    refine lv_iload_n hx hb d_M_put_27 rfl (lv_at hl 4 rfl) ?_
    refine xk_ast hx hb hK hP hD hS 2 rfl i v (by omega) (by decide) d_M_put_28 (fun H locs hP hD hS => ?_)
    have hP : va_P D classes (ce_M cA hM qa qc ks (va_up vs i v) n) H := hP
    have hD : va_D A (ce_M cA hM qa qc ks (va_up vs i v) n) := hD
    refine lv_iload hx hb d_M_put_29 (lv_at hl 0 rfl) ?_
    exact hret 31 _ _ _ (vs i) (ks, va_up vs i v, n) d_M_put_31 ⟨sa.1.symm, by
          rw [sa.2.2 v, (ml_P_at (vs := va_up vs i v) hp c1).1, va_up_self]
          congr 1
          · exact ml_eq i 0 0 (fun j hj => ⟨rfl, va_up_ne _ _ (by omega)⟩)
          · congr 1
            exact ml_eq (n - 1 - i) (i + 1) (i + 1) (fun j hj => ⟨rfl, va_up_ne _ _ (by omega)⟩), Nat.le_succ n⟩ hP hD hS
set_option maxHeartbeats 4000000 in
set_option maxRecDepth 100000 in
/-- move -/
theorem c_M_move (l : Launch) (D : va_G) (cA : ClassId) (hM qa qc hz : Nat) (ks vs : Nat → Int32) (n : Nat) (k v f : Int32) (hn : n < 4000) : xm_I l D cA y_M_move b_M_move 6 ({ frames := 1, cells := 0, slots := 0, locals := 24 }) [.ref hM, .int k, .int v, .int f] (ce_M cA hM qa qc ks vs n) hz (fun (r : Int32) (u : (Nat → Int32) × (Nat → Int32) × Nat) => r = sp_get k (ml_L ks vs 0 n) ∧ ml_L u.1 u.2.1 0 u.2.2 = sp_mv f (k, v) (sp_rm k (ml_L ks vs 0 n)) ∧ u.2.2 ≤ n + 1) (fun u : (Nat → Int32) × (Nat → Int32) × Nat => ce_M cA hM qa qc u.1 u.2.1 u.2.2) := by
  refine xm_I_of (by decide) (Nat.le_of_ble_eq_true rfl) ?_
  intro p e s m below meth c A Q ls hx hb hml hown hts hl hP hK hD hS hA hret
  have hown : s.vm.findClass "RecentMapModel" = some m.cls := hown
  have hl : lv_has ls 6 [(0, .ref hM), (1, .int k), (2, .int v), (3, .int f)] := hl
  refine lv_aload_n hx hb d_M_move_0 rfl (lv_at hl 0 rfl) ?_
  refine lv_iload_n hx hb d_M_move_1 rfl (lv_at hl 1 rfl) ?_
  refine xc_I (n := 1) (As := [.int k]) (rest := []) (wr := []) (wc := ce_M cA hM qa qc ks vs n) hx hb hml hown hts (c_M_place l D cA hM qa qc _ ks vs n k hn) (xc_G (fun _ h => .tail _ h) (.tail _ k_148) k_149 k_8 k_15 k_150) (by decide +kernel) ⟨rfl, rfl⟩ ⟨Nat.le_of_ble_eq_true rfl, Nat.le_of_ble_eq_true rfl⟩ hK hP hD hS hA [0, 1, 2] [] rfl rfl rfl rfl rfl (by decide) rfl rfl rfl rfl hl.1 rfl (Nat.le_of_ble_eq_true rfl) d_M_move_2 ⟨Nat.zero_le _, Nat.zero_le _⟩ (fun r u H locs hw hP hD hS => ?_)
  obtain ⟨i, rfl, hp⟩ := hw
  have hin := hp.1
  have hP : va_P D classes (ce_M cA hM qa qc ks vs n) H := hP
  have hD : va_D A (ce_M cA hM qa qc ks vs n) := hD
  refine lv_istore (lv' := [(4, .int (nI i)), (0, .ref hM), (1, .int k), (2, .int v), (3, .int f)]) hx hb d_M_move_5 hl (by decide) rfl (fun ls hl => ?_)
  refine lv_iconst (v := 0) hx hb d_M_move_7 (by decide) ?_
  refine lv_istore (lv' := [(5, .int 0), (4, .int (nI i)), (0, .ref hM), (1, .int k), (2, .int v), (3, .int f)]) hx hb d_M_move_8 hl (by decide) rfl (fun ls hl => ?_)
  refine lv_iload hx hb d_M_move_10 (lv_at hl 1 rfl) ?_
  refine lv_aload_n hx hb d_M_move_12 rfl (lv_at hl 2 rfl) ?_
  refine xg_M hx hb hts hown hK hP 0 rfl 2 (by decide) k_141 rfl d_M_move_13 ?_
  refine xn_ge hx hb i n (by omega) (by omega) (tgt := 27) d_M_move_16 (by decide) (fun c1 => ?_) (fun c1 => ?_)
  · have so := sp_out _ (ml_P_no (vs := vs) hp (by omega))
    refine lv_aload_n hx hb d_M_move_27 rfl (lv_at hl 2 rfl) ?_
    refine lv_iload_n hx hb d_M_move_28 rfl (lv_at hl 5 rfl) ?_
    refine lv_if_eq (tgt := 36) hx hb d_M_move_29 (by decide) (fun cf => ?_) (fun cf => ?_)
    · refine lv_aload_n hx hb d_M_move_36 rfl (lv_at hl 2 rfl) ?_
      refine xg_M hx hb hts hown hK hP 0 rfl 2 (by decide) k_141 rfl d_M_move_37 ?_
      refine lv_iload_n hx hb d_M_move_40 rfl (lv_at hl 3 rfl) ?_
      refine lv_iload_n hx hb d_M_move_41 rfl (lv_at hl 4 rfl) ?_
      refine xc_V (n := 3) (As := [.int (nI n), .int k, .int v]) (rest := []) (wr := []) (wc := ce_M cA hM qa qc ks vs n) hx hb hml hown hts (c_M_lay l D cA hM qa qc _ ks vs n n k v (by omega) (by omega)) (xc_G (fun _ h => .tail _ h) (.tail _ k_151) k_152 k_9 k_15 k_153) (by decide +kernel) ⟨rfl, rfl⟩ ⟨Nat.le_of_ble_eq_true rfl, Nat.le_of_ble_eq_true rfl⟩ hK hP hD hS hA [0, 1, 2] [] rfl rfl rfl rfl rfl (by decide) rfl rfl rfl rfl hl.1 rfl (Nat.le_of_ble_eq_true rfl) d_M_move_42 ⟨Nat.zero_le _, Nat.zero_le _⟩ (fun u H locs hw hP hD hS => ?_)
      obtain ⟨ks2, vs2⟩ := u
      dsimp only at hw
      have hP : va_P D classes (ce_M cA hM qa qc ks2 vs2 (n + 1)) H := hP
      have hD : va_D A (ce_M cA hM qa qc ks2 vs2 (n + 1)) := hD
      refine lv_iload hx hb d_M_move_45 (lv_at hl 0 rfl) ?_
      exact hret 47 _ _ _ 0 (ks2, vs2, n + 1) d_M_move_47 ⟨so.1.symm, by
              unfold sp_mv
              rw [if_pos cf, so.2.1]
              have e : n - n = 0 := by omega
              rw [e] at hw
              exact hw, show n + 1 ≤ n + 1 by omega⟩ hP hD hS
    · refine lv_iconst (v := 0) hx hb d_M_move_32 (by decide) ?_
      refine lv_goto (tgt := 40) hx hb d_M_move_33 (by decide) ?_
      refine lv_iload_n hx hb d_M_move_40 rfl (lv_at hl 3 rfl) ?_
      refine lv_iload_n hx hb d_M_move_41 rfl (lv_at hl 4 rfl) ?_
      refine xc_V (n := 3) (As := [.int 0, .int k, .int v]) (rest := []) (wr := []) (wc := ce_M cA hM qa qc ks vs n) hx hb hml hown hts (c_M_lay l D cA hM qa qc _ ks vs n 0 k v (by omega) (by omega)) (xc_G (fun _ h => .tail _ h) (.tail _ k_151) k_152 k_9 k_15 k_153) (by decide +kernel) ⟨rfl, rfl⟩ ⟨Nat.le_of_ble_eq_true rfl, Nat.le_of_ble_eq_true rfl⟩ hK hP hD hS hA [0, 1, 2] [] rfl rfl rfl rfl rfl (by decide) rfl rfl rfl rfl hl.1 rfl (Nat.le_of_ble_eq_true rfl) d_M_move_42 ⟨Nat.zero_le _, Nat.zero_le _⟩ (fun u H locs hw hP hD hS => ?_)
      obtain ⟨ks2, vs2⟩ := u
      dsimp only at hw
      have hP : va_P D classes (ce_M cA hM qa qc ks2 vs2 (n + 1)) H := hP
      have hD : va_D A (ce_M cA hM qa qc ks2 vs2 (n + 1)) := hD
      refine lv_iload hx hb d_M_move_45 (lv_at hl 0 rfl) ?_
      exact hret 47 _ _ _ 0 (ks2, vs2, n + 1) d_M_move_47 ⟨so.1.symm, by
              unfold sp_mv
              rw [if_neg cf, so.2.1]
              have e : n - 0 = n := by omega
              rw [e] at hw
              exact hw, show n + 1 ≤ n + 1 by omega⟩ hP hD hS
  · obtain ⟨eM, hno⟩ := ml_P_at (vs := vs) hp c1
    have sa := sp_at (k := k) (w := vs i) (ml_L ks vs (i + 1) (n - 1 - i)) _ hno
    rw [← eM] at sa
    refine lv_aload_n hx hb d_M_move_19 rfl (lv_at hl 2 rfl) ?_
    refine lv_iload hx hb d_M_move_20 (lv_at hl 1 rfl) ?_
    refine xc_I (n := 1) (As := [.int (nI i)]) (rest := []) (wr := []) (wc := ce_M cA hM qa qc ks vs n) hx hb hml hown hts (c_M_cut l D cA hM qa qc _ ks vs n i hn (by omega)) (xc_G (fun _ h => .tail _ h) (.tail _ k_160) k_161 k_11 k_15 k_162) (by decide +kernel) ⟨rfl, rfl⟩ ⟨Nat.le_of_ble_eq_true rfl, Nat.le_of_ble_eq_true rfl⟩ hK hP hD hS hA [0, 1, 2] [] rfl rfl rfl rfl rfl (by decide) rfl rfl rfl rfl hl.1 rfl (Nat.le_of_ble_eq_true rfl) d_M_move_22 ⟨Nat.zero_le _, Nat.zero_le _⟩ (fun r u H locs hw hP hD hS => ?_)
    obtain ⟨ks1, vs1⟩ := u
    dsimp only at hw
    obtain ⟨hr1, hc1⟩ := hw
    subst hr1
    have hP : va_P D classes (ce_M cA hM qa qc ks1 vs1 (n - 1)) H := hP
    have hD : va_D A (ce_M cA hM qa qc ks1 vs1 (n - 1)) := hD
    refine lv_istore (lv' := [(5, .int (vs i)), (4, .int (nI i)), (0, .ref hM), (1, .int k), (2, .int v), (3, .int f)]) hx hb d_M_move_25 hl (by decide) rfl (fun ls hl => ?_)
    refine lv_aload_n hx hb d_M_move_27 rfl (lv_at hl 2 rfl) ?_
    refine lv_iload_n hx hb d_M_move_28 rfl (lv_at hl 5 rfl) ?_
    refine lv_if_eq (tgt := 36) hx hb d_M_move_29 (by decide) (fun cf => ?_) (fun cf => ?_)
    · refine lv_aload_n hx hb d_M_move_36 rfl (lv_at hl 2 rfl) ?_
      refine xg_M hx hb hts hown hK hP 0 rfl 2 (by decide) k_141 rfl d_M_move_37 ?_
      refine lv_iload_n hx hb d_M_move_40 rfl (lv_at hl 3 rfl) ?_
      refine lv_iload_n hx hb d_M_move_41 rfl (lv_at hl 4 rfl) ?_
      refine xc_V (n := 3) (As := [.int (nI (n - 1)), .int k, .int v]) (rest := []) (wr := []) (wc := ce_M cA hM qa qc ks1 vs1 (n - 1)) hx hb hml hown hts (c_M_lay l D cA hM qa qc _ ks1 vs1 (n - 1) (n - 1) k v (by omega) (by omega)) (xc_G (fun _ h => .tail _ h) (.tail _ k_151) k_152 k_9 k_15 k_153) (by decide +kernel) ⟨rfl, rfl⟩ ⟨Nat.le_of_ble_eq_true rfl, Nat.le_of_ble_eq_true rfl⟩ hK hP hD hS hA [0, 1, 2] [] rfl rfl rfl rfl rfl (by decide) rfl rfl rfl rfl hl.1 rfl (Nat.le_of_ble_eq_true rfl) d_M_move_42 ⟨Nat.zero_le _, Nat.zero_le _⟩ (fun u H locs hw hP hD hS => ?_)
      obtain ⟨ks2, vs2⟩ := u
      dsimp only at hw
      have hP : va_P D classes (ce_M cA hM qa qc ks2 vs2 (n - 1 + 1)) H := hP
      have hD : va_D A (ce_M cA hM qa qc ks2 vs2 (n - 1 + 1)) := hD
      refine lv_iload hx hb d_M_move_45 (lv_at hl 0 rfl) ?_
      exact hret 47 _ _ _ (vs i) (ks2, vs2, n - 1 + 1) d_M_move_47 ⟨sa.1.symm, by
              unfold sp_mv
              rw [if_pos cf, sa.2.1]
              have e : (n - 1) - (n - 1) = 0 := by omega
              rw [e] at hw
              rw [hc1] at hw
              exact hw, show n - 1 + 1 ≤ n + 1 by omega⟩ hP hD hS
    · refine lv_iconst (v := 0) hx hb d_M_move_32 (by decide) ?_
      refine lv_goto (tgt := 40) hx hb d_M_move_33 (by decide) ?_
      refine lv_iload_n hx hb d_M_move_40 rfl (lv_at hl 3 rfl) ?_
      refine lv_iload_n hx hb d_M_move_41 rfl (lv_at hl 4 rfl) ?_
      refine xc_V (n := 3) (As := [.int 0, .int k, .int v]) (rest := []) (wr := []) (wc := ce_M cA hM qa qc ks1 vs1 (n - 1)) hx hb hml hown hts (c_M_lay l D cA hM qa qc _ ks1 vs1 (n - 1) 0 k v (by omega) (by omega)) (xc_G (fun _ h => .tail _ h) (.tail _ k_151) k_152 k_9 k_15 k_153) (by decide +kernel) ⟨rfl, rfl⟩ ⟨Nat.le_of_ble_eq_true rfl, Nat.le_of_ble_eq_true rfl⟩ hK hP hD hS hA [0, 1, 2] [] rfl rfl rfl rfl rfl (by decide) rfl rfl rfl rfl hl.1 rfl (Nat.le_of_ble_eq_true rfl) d_M_move_42 ⟨Nat.zero_le _, Nat.zero_le _⟩ (fun u H locs hw hP hD hS => ?_)
      obtain ⟨ks2, vs2⟩ := u
      dsimp only at hw
      have hP : va_P D classes (ce_M cA hM qa qc ks2 vs2 (n - 1 + 1)) H := hP
      have hD : va_D A (ce_M cA hM qa qc ks2 vs2 (n - 1 + 1)) := hD
      refine lv_iload hx hb d_M_move_45 (lv_at hl 0 rfl) ?_
      exact hret 47 _ _ _ (vs i) (ks2, vs2, n - 1 + 1) d_M_move_47 ⟨sa.1.symm, by
              unfold sp_mv
              rw [if_neg cf, sa.2.1]
              have e : (n - 1) - 0 = n - 1 := by omega
              rw [e, hc1] at hw
              exact hw, show n - 1 + 1 ≤ n + 1 by omega⟩ hP hD hS
set_option maxHeartbeats 4000000 in
set_option maxRecDepth 100000 in
/-- touch -/
theorem c_M_touch (l : Launch) (D : va_G) (cA : ClassId) (hM qa qc hz : Nat) (ks vs : Nat → Int32) (n : Nat) (k f : Int32) (hn : n < 4000) : xm_I l D cA y_M_touch b_M_touch 5 ({ frames := 1, cells := 0, slots := 0, locals := 24 }) [.ref hM, .int k, .int f] (ce_M cA hM qa qc ks vs n) hz (fun (r : Int32) (u : (Nat → Int32) × (Nat → Int32) × Nat) => r = sp_get k (ml_L ks vs 0 n) ∧ ml_L u.1 u.2.1 0 u.2.2 = sp_tch f k (ml_L ks vs 0 n) ∧ u.2.2 ≤ n + 1) (fun u : (Nat → Int32) × (Nat → Int32) × Nat => ce_M cA hM qa qc u.1 u.2.1 u.2.2) := by
  refine xm_I_of (by decide) (Nat.le_of_ble_eq_true rfl) ?_
  intro p e s m below meth c A Q ls hx hb hml hown hts hl hP hK hD hS hA hret
  have hown : s.vm.findClass "RecentMapModel" = some m.cls := hown
  have hl : lv_has ls 5 [(0, .ref hM), (1, .int k), (2, .int f)] := hl
  refine lv_aload_n hx hb d_M_touch_0 rfl (lv_at hl 0 rfl) ?_
  refine lv_iload_n hx hb d_M_touch_1 rfl (lv_at hl 1 rfl) ?_
  refine xc_I (n := 1) (As := [.int k]) (rest := []) (wr := []) (wc := ce_M cA hM qa qc ks vs n) hx hb hml hown hts (c_M_place l D cA hM qa qc _ ks vs n k hn) (xc_G (fun _ h => .tail _ h) (.tail _ k_148) k_149 k_8 k_15 k_150) (by decide +kernel) ⟨rfl, rfl⟩ ⟨Nat.le_of_ble_eq_true rfl, Nat.le_of_ble_eq_true rfl⟩ hK hP hD hS hA [0, 1, 2] [] rfl rfl rfl rfl rfl (by decide) rfl rfl rfl rfl hl.1 rfl (Nat.le_of_ble_eq_true rfl) d_M_touch_2 ⟨Nat.zero_le _, Nat.zero_le _⟩ (fun r u H locs hw hP hD hS => ?_)
  obtain ⟨i, rfl, hp⟩ := hw
  have hin := hp.1
  have hP : va_P D classes (ce_M cA hM qa qc ks vs n) H := hP
  have hD : va_D A (ce_M cA hM qa qc ks vs n) := hD
  refine lv_istore_n (lv' := [(3, .int (nI i)), (0, .ref hM), (1, .int k), (2, .int f)]) hx hb d_M_touch_5 rfl hl (by decide) rfl (fun ls hl => ?_)
  refine lv_iload_n hx hb d_M_touch_6 rfl (lv_at hl 0 rfl) ?_
  refine lv_aload_n hx hb d_M_touch_7 rfl (lv_at hl 1 rfl) ?_
  refine xg_M hx hb hts hown hK hP 0 rfl 2 (by decide) k_141 rfl d_M_touch_8 ?_
  refine xn_ne hx hb i n (by omega) (by omega) (tgt := 16) d_M_touch_11 (by decide) (fun c1 => ?_) (fun c1 => ?_)
  · obtain ⟨eM, hno⟩ := ml_P_at (vs := vs) hp (by omega)
    have sa := sp_at (k := k) (w := vs i) (ml_L ks vs (i + 1) (n - 1 - i)) _ hno
    have hh : sp_has k (ml_L ks vs 0 n) = true := by rw [eM]; exact sp_has_at _ _
    rw [← eM] at sa
    refine lv_aload_n hx hb d_M_touch_16 rfl (lv_at hl 1 rfl) ?_
    refine lv_iload_n hx hb d_M_touch_17 rfl (lv_at hl 0 rfl) ?_
    refine xc_I (n := 1) (As := [.int (nI i)]) (rest := []) (wr := []) (wc := ce_M cA hM qa qc ks vs n) hx hb hml hown hts (c_M_cut l D cA hM qa qc _ ks vs n i hn (by omega)) (xc_G (fun _ h => .tail _ h) (.tail _ k_160) k_161 k_11 k_15 k_162) (by decide +kernel) ⟨rfl, rfl⟩ ⟨Nat.le_of_ble_eq_true rfl, Nat.le_of_ble_eq_true rfl⟩ hK hP hD hS hA [0, 1, 2] [] rfl rfl rfl rfl rfl (by decide) rfl rfl rfl rfl hl.1 rfl (Nat.le_of_ble_eq_true rfl) d_M_touch_18 ⟨Nat.zero_le _, Nat.zero_le _⟩ (fun r u H locs hw hP hD hS => ?_)
    obtain ⟨ks1, vs1⟩ := u
    dsimp only at hw
    obtain ⟨hr1, hc1⟩ := hw
    subst hr1
    have hP : va_P D classes (ce_M cA hM qa qc ks1 vs1 (n - 1)) H := hP
    have hD : va_D A (ce_M cA hM qa qc ks1 vs1 (n - 1)) := hD
    refine lv_istore (lv' := [(4, .int (vs i)), (3, .int (nI i)), (0, .ref hM), (1, .int k), (2, .int f)]) hx hb d_M_touch_21 hl (by decide) rfl (fun ls hl => ?_)
    refine lv_aload_n hx hb d_M_touch_23 rfl (lv_at hl 2 rfl) ?_
    refine lv_iload_n hx hb d_M_touch_24 rfl (lv_at hl 4 rfl) ?_
    refine lv_if_eq (tgt := 32) hx hb d_M_touch_25 (by decide) (fun cf => ?_) (fun cf => ?_)
    · refine lv_aload_n hx hb d_M_touch_32 rfl (lv_at hl 2 rfl) ?_
      refine xg_M hx hb hts hown hK hP 0 rfl 2 (by decide) k_141 rfl d_M_touch_33 ?_
      refine lv_iload_n hx hb d_M_touch_36 rfl (lv_at hl 3 rfl) ?_
      refine lv_iload hx hb d_M_touch_37 (lv_at hl 0 rfl) ?_
      refine xc_V (n := 3) (As := [.int (nI (n - 1)), .int k, .int (vs i)]) (rest := []) (wr := []) (wc := ce_M cA hM qa qc ks1 vs1 (n - 1)) hx hb hml hown hts (c_M_lay l D cA hM qa qc _ ks1 vs1 (n - 1) (n - 1) k (vs i) (by omega) (by omega)) (xc_G (fun _ h => .tail _ h) (.tail _ k_151) k_152 k_9 k_15 k_153) (by decide +kernel) ⟨rfl, rfl⟩ ⟨Nat.le_of_ble_eq_true rfl, Nat.le_of_ble_eq_true rfl⟩ hK hP hD hS hA [0, 1, 2] [] rfl rfl rfl rfl rfl (by decide) rfl rfl rfl rfl hl.1 rfl (Nat.le_of_ble_eq_true rfl) d_M_touch_39 ⟨Nat.zero_le _, Nat.zero_le _⟩ (fun u H locs hw hP hD hS => ?_)
      obtain ⟨ks2, vs2⟩ := u
      dsimp only at hw
      have hP : va_P D classes (ce_M cA hM qa qc ks2 vs2 (n - 1 + 1)) H := hP
      have hD : va_D A (ce_M cA hM qa qc ks2 vs2 (n - 1 + 1)) := hD
      refine lv_iload hx hb d_M_touch_42 (lv_at hl 0 rfl) ?_
      exact hret 44 _ _ _ (vs i) (ks2, vs2, n - 1 + 1) d_M_touch_44 ⟨sa.1.symm, by
              unfold sp_tch
              rw [if_pos hh, sa.1, sa.2.1]
              unfold sp_mv
              rw [if_pos cf]
              have e : (n - 1) - (n - 1) = 0 := by omega
              rw [e, hc1] at hw
              exact hw, show n - 1 + 1 ≤ n + 1 by omega⟩ hP hD hS
    · refine lv_iconst (v := 0) hx hb d_M_touch_28 (by decide) ?_
      refine lv_goto (tgt := 36) hx hb d_M_touch_29 (by decide) ?_
      refine lv_iload_n hx hb d_M_touch_36 rfl (lv_at hl 3 rfl) ?_
      refine lv_iload hx hb d_M_touch_37 (lv_at hl 0 rfl) ?_
      refine xc_V (n := 3) (As := [.int 0, .int k, .int (vs i)]) (rest := []) (wr := []) (wc := ce_M cA hM qa qc ks1 vs1 (n - 1)) hx hb hml hown hts (c_M_lay l D cA hM qa qc _ ks1 vs1 (n - 1) 0 k (vs i) (by omega) (by omega)) (xc_G (fun _ h => .tail _ h) (.tail _ k_151) k_152 k_9 k_15 k_153) (by decide +kernel) ⟨rfl, rfl⟩ ⟨Nat.le_of_ble_eq_true rfl, Nat.le_of_ble_eq_true rfl⟩ hK hP hD hS hA [0, 1, 2] [] rfl rfl rfl rfl rfl (by decide) rfl rfl rfl rfl hl.1 rfl (Nat.le_of_ble_eq_true rfl) d_M_touch_39 ⟨Nat.zero_le _, Nat.zero_le _⟩ (fun u H locs hw hP hD hS => ?_)
      obtain ⟨ks2, vs2⟩ := u
      dsimp only at hw
      have hP : va_P D classes (ce_M cA hM qa qc ks2 vs2 (n - 1 + 1)) H := hP
      have hD : va_D A (ce_M cA hM qa qc ks2 vs2 (n - 1 + 1)) := hD
      refine lv_iload hx hb d_M_touch_42 (lv_at hl 0 rfl) ?_
      exact hret 44 _ _ _ (vs i) (ks2, vs2, n - 1 + 1) d_M_touch_44 ⟨sa.1.symm, by
              unfold sp_tch
              rw [if_pos hh, sa.1, sa.2.1]
              unfold sp_mv
              rw [if_neg cf]
              have e : (n - 1) - 0 = n - 1 := by omega
              rw [e, hc1] at hw
              exact hw, show n - 1 + 1 ≤ n + 1 by omega⟩ hP hD hS
  · have hnoM := ml_P_no (vs := vs) hp (by omega)
    have so := sp_out _ hnoM
    refine lv_iconst (v := 0) hx hb d_M_touch_14 (by decide) ?_
    exact hret 15 _ _ _ 0 (ks, vs, n) d_M_touch_15 ⟨so.1.symm, by
          unfold sp_tch
          rw [if_neg (by rw [sp_has_no _ hnoM]; decide)], Nat.le_succ n⟩ hP hD hS
set_option maxHeartbeats 4000000 in
set_option maxRecDepth 100000 in
/-- get -/
theorem c_M_get (l : Launch) (D : va_G) (cA : ClassId) (hM qa qc hz : Nat) (ks vs : Nat → Int32) (n : Nat) (k : Int32) (hn : n < 4000) : xm_I l D cA y_M_get b_M_get 3 ({ frames := 1, cells := 0, slots := 0, locals := 22 }) [.ref hM, .int k] (ce_M cA hM qa qc ks vs n) hz (fun (r : Int32) (u : (Nat → Int32) × (Nat → Int32) × Nat) => r = sp_get k (ml_L ks vs 0 n) ∧ ml_L u.1 u.2.1 0 u.2.2 = (ml_L ks vs 0 n) ∧ u.2.2 ≤ n + 1) (fun u : (Nat → Int32) × (Nat → Int32) × Nat => ce_M cA hM qa qc u.1 u.2.1 u.2.2) := by
  refine xm_I_of (by decide) (Nat.le_of_ble_eq_true rfl) ?_
  intro p e s m below meth c A Q ls hx hb hml hown hts hl hP hK hD hS hA hret
  have hown : s.vm.findClass "RecentMapModel" = some m.cls := hown
  have hl : lv_has ls 3 [(0, .ref hM), (1, .int k)] := hl
  refine lv_aload_n hx hb d_M_get_0 rfl (lv_at hl 0 rfl) ?_
  refine lv_iload_n hx hb d_M_get_1 rfl (lv_at hl 1 rfl) ?_
  refine xc_I (n := 1) (As := [.int k]) (rest := []) (wr := []) (wc := ce_M cA hM qa qc ks vs n) hx hb hml hown hts (c_M_place l D cA hM qa qc _ ks vs n k hn) (xc_G (fun _ h => .tail _ h) (.tail _ k_148) k_149 k_8 k_15 k_150) (by decide +kernel) ⟨rfl, rfl⟩ ⟨Nat.le_of_ble_eq_true rfl, Nat.le_of_ble_eq_true rfl⟩ hK hP hD hS hA [0, 1, 2] [] rfl rfl rfl rfl rfl (by decide) rfl rfl rfl rfl hl.1 rfl (Nat.le_of_ble_eq_true rfl) d_M_get_2 ⟨Nat.zero_le _, Nat.zero_le _⟩ (fun r u H locs hw hP hD hS => ?_)
  obtain ⟨i, rfl, hp⟩ := hw
  have hin := hp.1
  have hP : va_P D classes (ce_M cA hM qa qc ks vs n) H := hP
  have hD : va_D A (ce_M cA hM qa qc ks vs n) := hD
  refine lv_istore_n (lv' := [(2, .int (nI i)), (0, .ref hM), (1, .int k)]) hx hb d_M_get_5 rfl hl (by decide) rfl (fun ls hl => ?_)
  refine lv_iload_n hx hb d_M_get_6 rfl (lv_at hl 0 rfl) ?_
  refine lv_aload_n hx hb d_M_get_7 rfl (lv_at hl 1 rfl) ?_
  refine xg_M hx hb hts hown hK hP 0 rfl 2 (by decide) k_141 rfl d_M_get_8 ?_
  refine xn_ge hx hb i n (by omega) (by omega) (tgt := 23) d_M_get_11 (by decide) (fun c1 => ?_) (fun c1 => ?_)
  · have so := sp_out _ (ml_P_no (vs := vs) hp (by omega))
    refine lv_iconst (v := 0) hx hb d_M_get_23 (by decide) ?_
    exact hret 24 _ _ _ 0 (ks, vs, n) d_M_get_24 ⟨so.1.symm, rfl, Nat.le_succ n⟩ hP hD hS
  · obtain ⟨eM, hno⟩ := ml_P_at (vs := vs) hp c1
    have sa := sp_at (k := k) (w := vs i) (ml_L ks vs (i + 1) (n - 1 - i)) _ hno
    rw [← eM] at sa
    refine lv_aload_n hx hb d_M_get_14 rfl (lv_at hl 1 rfl) ?_
    refine xg_M hx hb hts hown hK hP 0 rfl 1 (by decide) k_140 rfl d_M_get_15 ?_
    refine lv_iload_n hx hb d_M_get_18 rfl (lv_at hl 0 rfl) ?_
    refine xk_ald hx hb hK hP 2 rfl i (by omega) (by decide) d_M_get_19 ?_
    refine lv_goto (tgt := 24) hx hb d_M_get_20 (by decide) ?_
    exact hret 24 _ _ _ (vs i) (ks, vs, n) d_M_get_24 ⟨sa.1.symm, rfl, Nat.le_succ n⟩ hP hD hS
set_option maxHeartbeats 4000000 in
set_option maxRecDepth 100000 in
/-- remove -/
theorem c_M_remove (l : Launch) (D : va_G) (cA : ClassId) (hM qa qc hz : Nat) (ks vs : Nat → Int32) (n : Nat) (k : Int32) (hn : n < 4000) : xm_I l D cA y_M_remove b_M_remove 3 ({ frames := 1, cells := 0, slots := 0, locals := 23 }) [.ref hM, .int k] (ce_M cA hM qa qc ks vs n) hz (fun (r : Int32) (u : (Nat → Int32) × (Nat → Int32) × Nat) => r = sp_get k (ml_L ks vs 0 n) ∧ ml_L u.1 u.2.1 0 u.2.2 = sp_rm k (ml_L ks vs 0 n) ∧ u.2.2 ≤ n + 1) (fun u : (Nat → Int32) × (Nat → Int32) × Nat => ce_M cA hM qa qc u.1 u.2.1 u.2.2) := by
  refine xm_I_of (by decide) (Nat.le_of_ble_eq_true rfl) ?_
  intro p e s m below meth c A Q ls hx hb hml hown hts hl hP hK hD hS hA hret
  have hown : s.vm.findClass "RecentMapModel" = some m.cls := hown
  have hl : lv_has ls 3 [(0, .ref hM), (1, .int k)] := hl
  refine lv_aload_n hx hb d_M_remove_0 rfl (lv_at hl 0 rfl) ?_
  refine lv_iload_n hx hb d_M_remove_1 rfl (lv_at hl 1 rfl) ?_
  refine xc_I (n := 1) (As := [.int k]) (rest := []) (wr := []) (wc := ce_M cA hM qa qc ks vs n) hx hb hml hown hts (c_M_place l D cA hM qa qc _ ks vs n k hn) (xc_G (fun _ h => .tail _ h) (.tail _ k_148) k_149 k_8 k_15 k_150) (by decide +kernel) ⟨rfl, rfl⟩ ⟨Nat.le_of_ble_eq_true rfl, Nat.le_of_ble_eq_true rfl⟩ hK hP hD hS hA [0, 1, 2] [] rfl rfl rfl rfl rfl (by decide) rfl rfl rfl rfl hl.1 rfl (Nat.le_of_ble_eq_true rfl) d_M_remove_2 ⟨Nat.zero_le _, Nat.zero_le _⟩ (fun r u H locs hw hP hD hS => ?_)
  obtain ⟨i, rfl, hp⟩ := hw
  have hin := hp.1
  have hP : va_P D classes (ce_M cA hM qa qc ks vs n) H := hP
  have hD : va_D A (ce_M cA hM qa qc ks vs n) := hD
  refine lv_istore_n (lv' := [(2, .int (nI i)), (0, .ref hM), (1, .int k)]) hx hb d_M_remove_5 rfl hl (by decide) rfl (fun ls hl => ?_)
  refine lv_iload_n hx hb d_M_remove_6 rfl (lv_at hl 0 rfl) ?_
  refine lv_aload_n hx hb d_M_remove_7 rfl (lv_at hl 1 rfl) ?_
  refine xg_M hx hb hts hown hK hP 0 rfl 2 (by decide) k_141 rfl d_M_remove_8 ?_
  refine xn_ge hx hb i n (by omega) (by omega) (tgt := 22) d_M_remove_11 (by decide) (fun c1 => ?_) (fun c1 => ?_)
  · have so := sp_out _ (ml_P_no (vs := vs) hp (by omega))
    refine lv_iconst (v := 0) hx hb d_M_remove_22 (by decide) ?_
    exact hret 23 _ _ _ 0 (ks, vs, n) d_M_remove_23 ⟨so.1.symm, so.2.1.symm, Nat.le_succ n⟩ hP hD hS
  · obtain ⟨eM, hno⟩ := ml_P_at (vs := vs) hp c1
    have sa := sp_at (k := k) (w := vs i) (ml_L ks vs (i + 1) (n - 1 - i)) _ hno
    rw [← eM] at sa
    refine lv_aload_n hx hb d_M_remove_14 rfl (lv_at hl 1 rfl) ?_
    refine lv_iload_n hx hb d_M_remove_15 rfl (lv_at hl 0 rfl) ?_
    refine xc_I (n := 1) (As := [.int (nI i)]) (rest := []) (wr := []) (wc := ce_M cA hM qa qc ks vs n) hx hb hml hown hts (c_M_cut l D cA hM qa qc _ ks vs n i hn (by omega)) (xc_G (fun _ h => .tail _ h) (.tail _ k_160) k_161 k_11 k_15 k_162) (by decide +kernel) ⟨rfl, rfl⟩ ⟨Nat.le_of_ble_eq_true rfl, Nat.le_of_ble_eq_true rfl⟩ hK hP hD hS hA [0, 1, 2] [] rfl rfl rfl rfl rfl (by decide) rfl rfl rfl rfl hl.1 rfl (Nat.le_of_ble_eq_true rfl) d_M_remove_16 ⟨Nat.zero_le _, Nat.zero_le _⟩ (fun r u H locs hw hP hD hS => ?_)
    obtain ⟨ks1, vs1⟩ := u
    dsimp only at hw
    obtain ⟨hr1, hc1⟩ := hw
    subst hr1
    have hP : va_P D classes (ce_M cA hM qa qc ks1 vs1 (n - 1)) H := hP
    have hD : va_D A (ce_M cA hM qa qc ks1 vs1 (n - 1)) := hD
    refine lv_goto (tgt := 23) hx hb d_M_remove_19 (by decide) ?_
    exact hret 23 _ _ _ (vs i) (ks1, vs1, n - 1) d_M_remove_23 ⟨sa.1.symm, hc1.trans sa.2.1.symm, show n - 1 ≤ n + 1 by omega⟩ hP hD hS
set_option maxHeartbeats 4000000 in
set_option maxRecDepth 100000 in
/-- dropFirst -/
theorem c_M_dropFirst (l : Launch) (D : va_G) (cA : ClassId) (hM qa qc hz : Nat) (ks vs : Nat → Int32) (n : Nat)  (hn : n < 4000) : xm_I l D cA y_M_dropFirst b_M_dropFirst 1 ({ frames := 1, cells := 0, slots := 0, locals := 23 }) [.ref hM] (ce_M cA hM qa qc ks vs n) hz (fun (r : Int32) (u : (Nat → Int32) × (Nat → Int32) × Nat) => r = sp_fv (ml_L ks vs 0 n) ∧ ml_L u.1 u.2.1 0 u.2.2 = (ml_L ks vs 0 n).tail ∧ u.2.2 ≤ n + 1) (fun u : (Nat → Int32) × (Nat → Int32) × Nat => ce_M cA hM qa qc u.1 u.2.1 u.2.2) := by
  refine xm_I_of (by decide) (Nat.le_of_ble_eq_true rfl) ?_
  intro p e s m below meth c A Q ls hx hb hml hown hts hl hP hK hD hS hA hret
  have hown : s.vm.findClass "RecentMapModel" = some m.cls := hown
  have hl : lv_has ls 1 [(0, .ref hM)] := hl
  refine lv_aload_n hx hb d_M_dropFirst_0 rfl (lv_at hl 0 rfl) ?_
  refine xg_M hx hb hts hown hK hP 0 rfl 2 (by decide) k_141 rfl d_M_dropFirst_1 ?_
  refine xn_ifne hx hb n (by omega) (tgt := 11) d_M_dropFirst_4 (by decide) (fun c0 => ?_) (fun c0 => ?_)
  · have eM := ml_at ks vs (i := 0) (n := n) (by omega)
    refine lv_aload_n hx hb d_M_dropFirst_11 rfl (lv_at hl 0 rfl) ?_
    refine lv_iconst (v := 0) hx hb d_M_dropFirst_12 (by decide) ?_
    refine xc_I (n := 1) (As := [.int 0]) (rest := []) (wr := []) (wc := ce_M cA hM qa qc ks vs n) hx hb hml hown hts (c_M_cut l D cA hM qa qc _ ks vs n 0 hn (by omega)) (xc_G (fun _ h => .tail _ h) (.tail _ k_160) k_161 k_11 k_15 k_162) (by decide +kernel) ⟨rfl, rfl⟩ ⟨Nat.le_of_ble_eq_true rfl, Nat.le_of_ble_eq_true rfl⟩ hK hP hD hS hA [0, 1, 2] [] rfl rfl rfl rfl rfl (by decide) rfl rfl rfl rfl hl.1 rfl (Nat.le_of_ble_eq_true rfl) d_M_dropFirst_13 ⟨Nat.zero_le _, Nat.zero_le _⟩ (fun r u H locs hw hP hD hS => ?_)
    obtain ⟨ks1, vs1⟩ := u
    dsimp only at hw
    obtain ⟨hr1, hc1⟩ := hw
    subst hr1
    have hP : va_P D classes (ce_M cA hM qa qc ks1 vs1 (n - 1)) H := hP
    have hD : va_D A (ce_M cA hM qa qc ks1 vs1 (n - 1)) := hD
    exact hret 16 _ _ _ (vs 0) (ks1, vs1, n - 1) d_M_dropFirst_16 ⟨by rw [eM]; rfl, hc1.trans (by rw [eM]; simp [ml_L]), show n - 1 ≤ n + 1 by omega⟩ hP hD hS
  · refine lv_iconst (v := 0) hx hb d_M_dropFirst_7 (by decide) ?_
    refine lv_goto (tgt := 16) hx hb d_M_dropFirst_8 (by decide) ?_
    exact hret 16 _ _ _ 0 (ks, vs, n) d_M_dropFirst_16 ⟨by rw [c0]; rfl, by rw [c0]; rfl, Nat.le_succ n⟩ hP hD hS
set_option maxHeartbeats 4000000 in
set_option maxRecDepth 100000 in
/-- dropLast -/
theorem c_M_dropLast (l : Launch) (D : va_G) (cA : ClassId) (hM qa qc hz : Nat) (ks vs : Nat → Int32) (n : Nat)  (hn : n < 4000) : xm_I l D cA y_M_dropLast b_M_dropLast 1 ({ frames := 1, cells := 0, slots := 0, locals := 23 }) [.ref hM] (ce_M cA hM qa qc ks vs n) hz (fun (r : Int32) (u : (Nat → Int32) × (Nat → Int32) × Nat) => r = sp_lv (ml_L ks vs 0 n) ∧ ml_L u.1 u.2.1 0 u.2.2 = (ml_L ks vs 0 n).dropLast ∧ u.2.2 ≤ n + 1) (fun u : (Nat → Int32) × (Nat → Int32) × Nat => ce_M cA hM qa qc u.1 u.2.1 u.2.2) := by
  refine xm_I_of (by decide) (Nat.le_of_ble_eq_true rfl) ?_
  intro p e s m below meth c A Q ls hx hb hml hown hts hl hP hK hD hS hA hret
  have hown : s.vm.findClass "RecentMapModel" = some m.cls := hown
  have hl : lv_has ls 1 [(0, .ref hM)] := hl
  refine lv_aload_n hx hb d_M_dropLast_0 rfl (lv_at hl 0 rfl) ?_
  refine xg_M hx hb hts hown hK hP 0 rfl 2 (by decide) k_141 rfl d_M_dropLast_1 ?_
  refine xn_ifne hx hb n (by omega) (tgt := 11) d_M_dropLast_4 (by decide) (fun c0 => ?_) (fun c0 => ?_)
  · have eM := ml_at ks vs (i := n - 1) (n := n) (by omega)
    have e0 : n - 1 - (n - 1) = 0 := by omega
    rw [e0] at eM
    have eM : ml_L ks vs 0 n = ml_L ks vs 0 (n - 1) ++ [(ks (n - 1), vs (n - 1))] := eM
    refine lv_aload_n hx hb d_M_dropLast_11 rfl (lv_at hl 0 rfl) ?_
    refine lv_aload_n hx hb d_M_dropLast_12 rfl (lv_at hl 0 rfl) ?_
    refine xg_M hx hb hts hown hK hP 0 rfl 2 (by decide) k_141 rfl d_M_dropLast_13 ?_
    refine lv_iconst (v := 1) hx hb d_M_dropLast_16 (by decide) ?_
    refine lv_isub hx hb d_M_dropLast_17 ?_
    refine xi_top (nI (n - 1)) (pk_sub (b := 1) (by omega)) ?_
    refine xc_I (n := 1) (As := [.int (nI (n - 1))]) (rest := []) (wr := []) (wc := ce_M cA hM qa qc ks vs n) hx hb hml hown hts (c_M_cut l D cA hM qa qc _ ks vs n (n - 1) hn (by omega)) (xc_G (fun _ h => .tail _ h) (.tail _ k_160) k_161 k_11 k_15 k_162) (by decide +kernel) ⟨rfl, rfl⟩ ⟨Nat.le_of_ble_eq_true rfl, Nat.le_of_ble_eq_true rfl⟩ hK hP hD hS hA [0, 1, 2] [] rfl rfl rfl rfl rfl (by decide) rfl rfl rfl rfl hl.1 rfl (Nat.le_of_ble_eq_true rfl) d_M_dropLast_18 ⟨Nat.zero_le _, Nat.zero_le _⟩ (fun r u H locs hw hP hD hS => ?_)
    obtain ⟨ks1, vs1⟩ := u
    dsimp only at hw
    obtain ⟨hr1, hc1⟩ := hw
    subst hr1
    have hP : va_P D classes (ce_M cA hM qa qc ks1 vs1 (n - 1)) H := hP
    have hD : va_D A (ce_M cA hM qa qc ks1 vs1 (n - 1)) := hD
    exact hret 21 _ _ _ (vs (n - 1)) (ks1, vs1, n - 1) d_M_dropLast_21 ⟨by rw [eM, sp_lv_s], hc1.trans (by
          rw [e0, eM]
          simp [ml_L]), show n - 1 ≤ n + 1 by omega⟩ hP hD hS
  · refine lv_iconst (v := 0) hx hb d_M_dropLast_7 (by decide) ?_
    refine lv_goto (tgt := 21) hx hb d_M_dropLast_8 (by decide) ?_
    exact hret 21 _ _ _ 0 (ks, vs, n) d_M_dropLast_21 ⟨by rw [c0]; rfl, by rw [c0]; rfl, Nat.le_succ n⟩ hP hD hS
set_option maxHeartbeats 4000000 in
set_option maxRecDepth 100000 in
/-- M_putFirst -/
theorem c_M_putFirst (l : Launch) (D : va_G) (cA : ClassId) (hM qa qc hz : Nat) (ks vs : Nat → Int32) (n : Nat) (k v : Int32) (hn : n < 4000) : xm_I l D cA y_M_putFirst b_M_putFirst 3 ({ frames := 2, cells := 0, slots := 0, locals := 49 }) [.ref hM, .int k, .int v] (ce_M cA hM qa qc ks vs n) hz (fun (r : Int32) (u : (Nat → Int32) × (Nat → Int32) × Nat) => r = sp_get k (ml_L ks vs 0 n) ∧ ml_L u.1 u.2.1 0 u.2.2 = sp_mv 1 (k, v) (sp_rm k (ml_L ks vs 0 n)) ∧ u.2.2 ≤ n + 1) (fun u : (Nat → Int32) × (Nat → Int32) × Nat => ce_M cA hM qa qc u.1 u.2.1 u.2.2) := by
  refine xm_I_of (by decide) (Nat.le_of_ble_eq_true rfl) ?_
  intro p e s m below meth c A Q ls hx hb hml hown hts hl hP hK hD hS hA hret
  have hown : s.vm.findClass "RecentMapModel" = some m.cls := hown
  have hl : lv_has ls 3 [(0, .ref hM), (1, .int k), (2, .int v)] := hl
  refine lv_aload_n hx hb d_M_putFirst_0 rfl (lv_at hl 0 rfl) ?_
  refine lv_iload_n hx hb d_M_putFirst_1 rfl (lv_at hl 1 rfl) ?_
  refine lv_iload_n hx hb d_M_putFirst_2 rfl (lv_at hl 2 rfl) ?_
  refine lv_iconst (v := 1) hx hb d_M_putFirst_3 (by decide) ?_
  refine xc_I (n := 3) (As := [.int k, .int v, .int 1]) (rest := []) (wr := []) (wc := ce_M cA hM qa qc ks vs n) hx hb hml hown hts (c_M_move l D cA hM qa qc _ ks vs n k v 1 hn) (xc_G (fun _ h => .tail _ h) (.tail _ k_157) k_158 k_10 k_15 k_159) (by decide +kernel) ⟨rfl, rfl⟩ ⟨Nat.le_of_ble_eq_true rfl, Nat.le_of_ble_eq_true rfl⟩ hK hP hD hS hA [0, 1, 2] [] rfl rfl rfl rfl rfl (by decide) rfl rfl rfl rfl hl.1 rfl (Nat.le_of_ble_eq_true rfl) d_M_putFirst_4 ⟨Nat.zero_le _, Nat.zero_le _⟩ (fun r u H locs hw hP hD hS => ?_)
  obtain ⟨ks1, vs1, n1⟩ := u
  dsimp only at hw
  have hP : va_P D classes (ce_M cA hM qa qc ks1 vs1 n1) H := hP
  have hD : va_D A (ce_M cA hM qa qc ks1 vs1 n1) := hD
  exact hret 7 _ _ _ r (ks1, vs1, n1) d_M_putFirst_7 hw hP hD hS
set_option maxHeartbeats 4000000 in
set_option maxRecDepth 100000 in
/-- M_putLast -/
theorem c_M_putLast (l : Launch) (D : va_G) (cA : ClassId) (hM qa qc hz : Nat) (ks vs : Nat → Int32) (n : Nat) (k v : Int32) (hn : n < 4000) : xm_I l D cA y_M_putLast b_M_putLast 3 ({ frames := 2, cells := 0, slots := 0, locals := 49 }) [.ref hM, .int k, .int v] (ce_M cA hM qa qc ks vs n) hz (fun (r : Int32) (u : (Nat → Int32) × (Nat → Int32) × Nat) => r = sp_get k (ml_L ks vs 0 n) ∧ ml_L u.1 u.2.1 0 u.2.2 = sp_mv 0 (k, v) (sp_rm k (ml_L ks vs 0 n)) ∧ u.2.2 ≤ n + 1) (fun u : (Nat → Int32) × (Nat → Int32) × Nat => ce_M cA hM qa qc u.1 u.2.1 u.2.2) := by
  refine xm_I_of (by decide) (Nat.le_of_ble_eq_true rfl) ?_
  intro p e s m below meth c A Q ls hx hb hml hown hts hl hP hK hD hS hA hret
  have hown : s.vm.findClass "RecentMapModel" = some m.cls := hown
  have hl : lv_has ls 3 [(0, .ref hM), (1, .int k), (2, .int v)] := hl
  refine lv_aload_n hx hb d_M_putLast_0 rfl (lv_at hl 0 rfl) ?_
  refine lv_iload_n hx hb d_M_putLast_1 rfl (lv_at hl 1 rfl) ?_
  refine lv_iload_n hx hb d_M_putLast_2 rfl (lv_at hl 2 rfl) ?_
  refine lv_iconst (v := 0) hx hb d_M_putLast_3 (by decide) ?_
  refine xc_I (n := 3) (As := [.int k, .int v, .int 0]) (rest := []) (wr := []) (wc := ce_M cA hM qa qc ks vs n) hx hb hml hown hts (c_M_move l D cA hM qa qc _ ks vs n k v 0 hn) (xc_G (fun _ h => .tail _ h) (.tail _ k_157) k_158 k_10 k_15 k_159) (by decide +kernel) ⟨rfl, rfl⟩ ⟨Nat.le_of_ble_eq_true rfl, Nat.le_of_ble_eq_true rfl⟩ hK hP hD hS hA [0, 1, 2] [] rfl rfl rfl rfl rfl (by decide) rfl rfl rfl rfl hl.1 rfl (Nat.le_of_ble_eq_true rfl) d_M_putLast_4 ⟨Nat.zero_le _, Nat.zero_le _⟩ (fun r u H locs hw hP hD hS => ?_)
  obtain ⟨ks1, vs1, n1⟩ := u
  dsimp only at hw
  have hP : va_P D classes (ce_M cA hM qa qc ks1 vs1 n1) H := hP
  have hD : va_D A (ce_M cA hM qa qc ks1 vs1 n1) := hD
  exact hret 7 _ _ _ r (ks1, vs1, n1) d_M_putLast_7 hw hP hD hS
set_option maxHeartbeats 4000000 in
set_option maxRecDepth 100000 in
/-- M_touchFirst -/
theorem c_M_touchFirst (l : Launch) (D : va_G) (cA : ClassId) (hM qa qc hz : Nat) (ks vs : Nat → Int32) (n : Nat) (k : Int32) (hn : n < 4000) : xm_I l D cA y_M_touchFirst b_M_touchFirst 2 ({ frames := 2, cells := 0, slots := 0, locals := 48 }) [.ref hM, .int k] (ce_M cA hM qa qc ks vs n) hz (fun (r : Int32) (u : (Nat → Int32) × (Nat → Int32) × Nat) => r = sp_get k (ml_L ks vs 0 n) ∧ ml_L u.1 u.2.1 0 u.2.2 = sp_tch 1 k (ml_L ks vs 0 n) ∧ u.2.2 ≤ n + 1) (fun u : (Nat → Int32) × (Nat → Int32) × Nat => ce_M cA hM qa qc u.1 u.2.1 u.2.2) := by
  refine xm_I_of (by decide) (Nat.le_of_ble_eq_true rfl) ?_
  intro p e s m below meth c A Q ls hx hb hml hown hts hl hP hK hD hS hA hret
  have hown : s.vm.findClass "RecentMapModel" = some m.cls := hown
  have hl : lv_has ls 2 [(0, .ref hM), (1, .int k)] := hl
  refine lv_aload_n hx hb d_M_touchFirst_0 rfl (lv_at hl 0 rfl) ?_
  refine lv_iload_n hx hb d_M_touchFirst_1 rfl (lv_at hl 1 rfl) ?_
  refine lv_iconst (v := 1) hx hb d_M_touchFirst_2 (by decide) ?_
  refine xc_I (n := 2) (As := [.int k, .int 1]) (rest := []) (wr := []) (wc := ce_M cA hM qa qc ks vs n) hx hb hml hown hts (c_M_touch l D cA hM qa qc _ ks vs n k 1 hn) (xc_G (fun _ h => .tail _ h) (.tail _ k_169) k_170 k_12 k_15 k_171) (by decide +kernel) ⟨rfl, rfl⟩ ⟨Nat.le_of_ble_eq_true rfl, Nat.le_of_ble_eq_true rfl⟩ hK hP hD hS hA [0, 1, 2] [] rfl rfl rfl rfl rfl (by decide) rfl rfl rfl rfl hl.1 rfl (Nat.le_of_ble_eq_true rfl) d_M_touchFirst_3 ⟨Nat.zero_le _, Nat.zero_le _⟩ (fun r u H locs hw hP hD hS => ?_)
  obtain ⟨ks1, vs1, n1⟩ := u
  dsimp only at hw
  have hP : va_P D classes (ce_M cA hM qa qc ks1 vs1 n1) H := hP
  have hD : va_D A (ce_M cA hM qa qc ks1 vs1 n1) := hD
  exact hret 6 _ _ _ r (ks1, vs1, n1) d_M_touchFirst_6 hw hP hD hS
set_option maxHeartbeats 4000000 in
set_option maxRecDepth 100000 in
/-- M_touchLast -/
theorem c_M_touchLast (l : Launch) (D : va_G) (cA : ClassId) (hM qa qc hz : Nat) (ks vs : Nat → Int32) (n : Nat) (k : Int32) (hn : n < 4000) : xm_I l D cA y_M_touchLast b_M_touchLast 2 ({ frames := 2, cells := 0, slots := 0, locals := 48 }) [.ref hM, .int k] (ce_M cA hM qa qc ks vs n) hz (fun (r : Int32) (u : (Nat → Int32) × (Nat → Int32) × Nat) => r = sp_get k (ml_L ks vs 0 n) ∧ ml_L u.1 u.2.1 0 u.2.2 = sp_tch 0 k (ml_L ks vs 0 n) ∧ u.2.2 ≤ n + 1) (fun u : (Nat → Int32) × (Nat → Int32) × Nat => ce_M cA hM qa qc u.1 u.2.1 u.2.2) := by
  refine xm_I_of (by decide) (Nat.le_of_ble_eq_true rfl) ?_
  intro p e s m below meth c A Q ls hx hb hml hown hts hl hP hK hD hS hA hret
  have hown : s.vm.findClass "RecentMapModel" = some m.cls := hown
  have hl : lv_has ls 2 [(0, .ref hM), (1, .int k)] := hl
  refine lv_aload_n hx hb d_M_touchLast_0 rfl (lv_at hl 0 rfl) ?_
  refine lv_iload_n hx hb d_M_touchLast_1 rfl (lv_at hl 1 rfl) ?_
  refine lv_iconst (v := 0) hx hb d_M_touchLast_2 (by decide) ?_
  refine xc_I (n := 2) (As := [.int k, .int 0]) (rest := []) (wr := []) (wc := ce_M cA hM qa qc ks vs n) hx hb hml hown hts (c_M_touch l D cA hM qa qc _ ks vs n k 0 hn) (xc_G (fun _ h => .tail _ h) (.tail _ k_169) k_170 k_12 k_15 k_171) (by decide +kernel) ⟨rfl, rfl⟩ ⟨Nat.le_of_ble_eq_true rfl, Nat.le_of_ble_eq_true rfl⟩ hK hP hD hS hA [0, 1, 2] [] rfl rfl rfl rfl rfl (by decide) rfl rfl rfl rfl hl.1 rfl (Nat.le_of_ble_eq_true rfl) d_M_touchLast_3 ⟨Nat.zero_le _, Nat.zero_le _⟩ (fun r u H locs hw hP hD hS => ?_)
  obtain ⟨ks1, vs1, n1⟩ := u
  dsimp only at hw
  have hP : va_P D classes (ce_M cA hM qa qc ks1 vs1 n1) H := hP
  have hD : va_D A (ce_M cA hM qa qc ks1 vs1 n1) := hD
  exact hret 6 _ _ _ r (ks1, vs1, n1) d_M_touchLast_6 hw hP hD hS
set_option maxHeartbeats 4000000 in
set_option maxRecDepth 100000 in
/-- M_first -/
theorem c_M_first (l : Launch) (D : va_G) (cA : ClassId) (hM qa qc hz : Nat) (ks vs : Nat → Int32) (n : Nat)  (hn : n < 4000) : xm_I l D cA y_M_first b_M_first 1 ({ frames := 0, cells := 0, slots := 0, locals := 0 }) [.ref hM] (ce_M cA hM qa qc ks vs n) hz (fun (r : Int32) (u : (Nat → Int32) × (Nat → Int32) × Nat) => r = sp_fk (ml_L ks vs 0 n) ∧ ml_L u.1 u.2.1 0 u.2.2 = (ml_L ks vs 0 n) ∧ u.2.2 ≤ n + 1) (fun u : (Nat → Int32) × (Nat → Int32) × Nat => ce_M cA hM qa qc u.1 u.2.1 u.2.2) := by
  refine xm_I_of (by decide) (Nat.le_of_ble_eq_true rfl) ?_
  intro p e s m below meth c A Q ls hx hb hml hown hts hl hP hK hD hS hA hret
  have hown : s.vm.findClass "RecentMapModel" = some m.cls := hown
  have hl : lv_has ls 1 [(0, .ref hM)] := hl
  refine lv_aload_n hx hb d_M_first_0 rfl (lv_at hl 0 rfl) ?_
  refine xg_M hx hb hts hown hK hP 0 rfl 2 (by decide) k_141 rfl d_M_first_1 ?_
  refine xn_ifne hx hb n (by omega) (tgt := 11) d_M_first_4 (by decide) (fun c0 => ?_) (fun c0 => ?_)
  · have eM := ml_at ks vs (i := 0) (n := n) (by omega)
    refine lv_aload_n hx hb d_M_first_11 rfl (lv_at hl 0 rfl) ?_
    refine xg_M hx hb hts hown hK hP 0 rfl 0 (by decide) k_139 rfl d_M_first_12 ?_
    refine lv_iconst (v := 0) hx hb d_M_first_15 (by decide) ?_
    refine xk_ald hx hb hK hP 1 rfl 0 (by omega) (by decide) d_M_first_16 ?_
    exact hret 17 _ _ _ (ks 0) (ks, vs, n) d_M_first_17 ⟨by rw [eM]; rfl, rfl, Nat.le_succ n⟩ hP hD hS
  · refine lv_iconst (v := 0) hx hb d_M_first_7 (by decide) ?_
    refine lv_goto (tgt := 17) hx hb d_M_first_8 (by decide) ?_
    exact hret 17 _ _ _ 0 (ks, vs, n) d_M_first_17 ⟨by rw [c0]; rfl, rfl, Nat.le_succ n⟩ hP hD hS
set_option maxHeartbeats 4000000 in
set_option maxRecDepth 100000 in
/-- M_last -/
theorem c_M_last (l : Launch) (D : va_G) (cA : ClassId) (hM qa qc hz : Nat) (ks vs : Nat → Int32) (n : Nat)  (hn : n < 4000) : xm_I l D cA y_M_last b_M_last 1 ({ frames := 0, cells := 0, slots := 0, locals := 0 }) [.ref hM] (ce_M cA hM qa qc ks vs n) hz (fun (r : Int32) (u : (Nat → Int32) × (Nat → Int32) × Nat) => r = sp_lk (ml_L ks vs 0 n) ∧ ml_L u.1 u.2.1 0 u.2.2 = (ml_L ks vs 0 n) ∧ u.2.2 ≤ n + 1) (fun u : (Nat → Int32) × (Nat → Int32) × Nat => ce_M cA hM qa qc u.1 u.2.1 u.2.2) := by
  refine xm_I_of (by decide) (Nat.le_of_ble_eq_true rfl) ?_
  intro p e s m below meth c A Q ls hx hb hml hown hts hl hP hK hD hS hA hret
  have hown : s.vm.findClass "RecentMapModel" = some m.cls := hown
  have hl : lv_has ls 1 [(0, .ref hM)] := hl
  refine lv_aload_n hx hb d_M_last_0 rfl (lv_at hl 0 rfl) ?_
  refine xg_M hx hb hts hown hK hP 0 rfl 2 (by decide) k_141 rfl d_M_last_1 ?_
  refine xn_ifne hx hb n (by omega) (tgt := 11) d_M_last_4 (by decide) (fun c0 => ?_) (fun c0 => ?_)
  · have eM := ml_at ks vs (i := n - 1) (n := n) (by omega)
    have e0 : n - 1 - (n - 1) = 0 := by omega
    rw [e0] at eM
    have eM : ml_L ks vs 0 n = ml_L ks vs 0 (n - 1) ++ [(ks (n - 1), vs (n - 1))] := eM
    refine lv_aload_n hx hb d_M_last_11 rfl (lv_at hl 0 rfl) ?_
    refine xg_M hx hb hts hown hK hP 0 rfl 0 (by decide) k_139 rfl d_M_last_12 ?_
    refine lv_aload_n hx hb d_M_last_15 rfl (lv_at hl 0 rfl) ?_
    refine xg_M hx hb hts hown hK hP 0 rfl 2 (by decide) k_141 rfl d_M_last_16 ?_
    refine lv_iconst (v := 1) hx hb d_M_last_19 (by decide) ?_
    refine lv_isub hx hb d_M_last_20 ?_
    refine xi_top (nI (n - 1)) (pk_sub (b := 1) (by omega)) ?_
    refine xk_ald hx hb hK hP 1 rfl (n - 1) (by omega) (by decide) d_M_last_21 ?_
    exact hret 22 _ _ _ (ks (n - 1)) (ks, vs, n) d_M_last_22 ⟨by rw [eM, sp_lk_s], rfl, Nat.le_succ n⟩ hP hD hS
  · refine lv_iconst (v := 0) hx hb d_M_last_7 (by decide) ?_
    refine lv_goto (tgt := 22) hx hb d_M_last_8 (by decide) ?_
    exact hret 22 _ _ _ 0 (ks, vs, n) d_M_last_22 ⟨by rw [c0]; rfl, rfl, Nat.le_succ n⟩ hP hD hS
set_option maxHeartbeats 4000000 in
set_option maxRecDepth 100000 in
/-- size -/
theorem c_M_size (l : Launch) (D : va_G) (cA : ClassId) (hM qa qc hz : Nat) (ks vs : Nat → Int32) (n : Nat)  (hn : n < 4000) : xm_I l D cA y_M_size b_M_size 1 ({ frames := 0, cells := 0, slots := 0, locals := 0 }) [.ref hM] (ce_M cA hM qa qc ks vs n) hz (fun (r : Int32) (u : (Nat → Int32) × (Nat → Int32) × Nat) => r = nI (ml_L ks vs 0 n).length ∧ ml_L u.1 u.2.1 0 u.2.2 = (ml_L ks vs 0 n) ∧ u.2.2 ≤ n + 1) (fun u : (Nat → Int32) × (Nat → Int32) × Nat => ce_M cA hM qa qc u.1 u.2.1 u.2.2) := by
  refine xm_I_of (by decide) (Nat.le_of_ble_eq_true rfl) ?_
  intro p e s m below meth c A Q ls hx hb hml hown hts hl hP hK hD hS hA hret
  have hown : s.vm.findClass "RecentMapModel" = some m.cls := hown
  have hl : lv_has ls 1 [(0, .ref hM)] := hl
  refine lv_aload_n hx hb d_M_size_0 rfl (lv_at hl 0 rfl) ?_
  refine xg_M hx hb hts hown hK hP 0 rfl 2 (by decide) k_141 rfl d_M_size_1 ?_
  exact hret 4 _ _ _ (nI n) (ks, vs, n) d_M_size_4 ⟨by rw [ml_len], rfl, Nat.le_succ n⟩ hP hD hS
set_option maxHeartbeats 4000000 in
set_option maxRecDepth 100000 in
/-- clear -/
theorem c_M_clear (l : Launch) (D : va_G) (cA : ClassId) (hM qa qc hz : Nat) (ks vs : Nat → Int32) (n : Nat)  (hn : n < 4000) : xm_V l D cA y_M_clear b_M_clear 1 ({ frames := 0, cells := 0, slots := 0, locals := 0 }) [.ref hM] (ce_M cA hM qa qc ks vs n) hz (fun (u : (Nat → Int32) × (Nat → Int32) × Nat) => ml_L u.1 u.2.1 0 u.2.2 = [] ∧ u.2.2 ≤ n + 1) (fun u : (Nat → Int32) × (Nat → Int32) × Nat => ce_M cA hM qa qc u.1 u.2.1 u.2.2) := by
  refine xm_V_of (by decide) (Nat.le_of_ble_eq_true rfl) ?_
  intro p e s m below meth c A Q ls hx hb hml hown hts hl hP hK hD hS hA hret
  have hown : s.vm.findClass "RecentMapModel" = some m.cls := hown
  have hl : lv_has ls 1 [(0, .ref hM)] := hl
  refine lv_aload_n hx hb d_M_clear_0 rfl (lv_at hl 0 rfl) ?_
  refine lv_iconst (v := 0) hx hb d_M_clear_1 (by decide) ?_
  refine xp_M hx hb hts hown hK hP hD hS 0 rfl 2 (by decide) k_141 (.int (nI 0)) rfl rfl rfl (Nat.le_of_ble_eq_true rfl) d_M_clear_2 (fun H locs hP hD hS => ?_)
  have hP : va_P D classes (ce_M cA hM qa qc ks vs 0) H := hP
  have hD : va_D A (ce_M cA hM qa qc ks vs 0) := hD
  exact hret 5 _ _ _ (ks, vs, 0) d_M_clear_5 ⟨rfl, Nat.zero_le _⟩ hP hD hS
end
section
/-! CONSTRUCTORS (printed by gen/init.py) -/
theorem xa_same {D : va_G} {c1 c2 : ClassId} {s : State} (h : va_K D classes [(c1, .int), (c2, .int)] s) : c1 = c2 := by
  have a1 : s.vm.findClass ("[" ++ FieldType.int.toString) = some c1 := (h.2 0 _ rfl).2
  have a2 : s.vm.findClass ("[" ++ FieldType.int.toString) = some c2 := (h.2 1 _ rfl).2
  exact Option.some.inj (a1.symm.trans a2)
theorem xa_K {D : va_G} {s : State} {args : Array Value} (hc : ∀ (c : Nat) (q : vw_C), classes[c]? = some q → u_Kn s q.1 q.2.1 q.2.2 (D.1 c) (D.2 c)) (h : (Cond.arrayClass .int).before args s = true) : ∃ cA : ClassId, va_K D classes [(cA, .int)] s := by
  obtain ⟨cA, kA, comp, hfind, hk, hkind⟩ := Cond.arrayClass_spec h
  refine ⟨cA, hc, fun j q hq => ?_⟩
  match j, hq with
  | 0, hq =>
    cases hq
    exact ⟨fun n z => ⟨fun k h => (by cases h), kA, hk, comp, hkind⟩, hfind⟩
  | j + 1, hq => simp at hq
theorem xc_GI {Ts : List Cond} {y : MethodName} {bytes : ByteArray} {maxL : Nat} {ret : Option FieldType} (hsub : ∀ w ∈ WW, w ∈ Ts) (k5 : Cond.code y bytes maxL ret ∈ WW) : GoodIn Ts (Cond.code y bytes maxL ret :: WW) := by
  intro w hw
  rcases List.mem_cons.mp hw with rfl | hw
  · exact ⟨hsub _ k5, Or.inl rfl⟩
  · exact ⟨hsub _ hw, WW_good w hw⟩
def xm_N (l : Launch) (D : va_G) (cA : ClassId) (y : MethodName) (bytes : ByteArray) (rm : Room) (h : Nat) (wc : va_W) (hz mc ms : Nat) (ext : State → Prop) {S : Type} (cw : S → va_W) : Prop :=
  Met l y (Cond.code y bytes 1 none :: WW) rm (va_Pc [.ref h] (fun U => U.heap.size = hz ∧ va_P D classes wc U.heap ∧ va_K D classes [(cA, .int)] U ∧ va_D (fun _ => True) wc ∧ ext U)) (va_Qv (fun _ : S => True) (fun u t => va_P D classes (cw u) t.heap ∧ va_K D classes [(cA, .int)] t ∧ va_D (va_A wc hz) (cw u)) (va_A wc hz)) mc ms (va_A wc hz)
theorem xm_N_of {l : Launch} {D : va_G} {cA : ClassId} {y : MethodName} {bytes : ByteArray} {rm : Room} {h : Nat} {wc : va_W} {hz mc ms : Nat} {ext : State → Prop} {S : Type} {cw : S → va_W} (hy : plainName y.cls = true) (hnm : y.name = "<init>")
    (body : ∀ (p : Program) (e : Env) (s : State) (m : MethodId) (below : List Frame) (meth : Method) (c : Code) (A : Nat → Prop) (Q : State → Prop) (ls : Array Slot), p.tables.exec = Jvm.exec → c.code = bytes → c.maxLocals = 1 → s.vm.findClass y.cls = some m.cls → (∀ w ∈ Cond.code y bytes 1 none :: WW, w.before [Value.ref h].toArray s = true) → meth.name = "<init>" → lv_has ls 1 [(0, .ref h)] → va_P D classes wc s.heap → va_K D classes [(cA, .int)] s → va_D A wc → va_S A s.heap s.heap [] → (∀ q : Nat, s.heap.size ≤ q → A q) → ext s →
      (∀ (pc : Nat) (H : Heap) (locs : List Loc) (ls : Array Slot) (u : S), decode bytes pc = .ok (.return_, 1) → va_P D classes (cw u) H → va_D A (cw u) → va_S A s.heap H locs → W p l e rm s m [Value.ref h].toArray below meth c H locs mc ms Q (F0 m pc ls [])) →
      W p l e rm s m [Value.ref h].toArray below meth c s.heap [] 0 0 Q (F0 m 0 ls [])) : xm_N l D cA y bytes rm h wc hz mc ms ext cw := by
  unfold xm_N
  refine Met.ofW (cc := bytes) (maxL := 1) (ret := none) hy rfl ?_
  intro p e s m args below meth c s₁ B hml hv
  obtain ⟨rfl, hsz, hP, hK, hD0, hext⟩ := hv
  have hx := B.exec
  have hb := B.bytes
  have hr := B.returns
  have hts := atoms_spec (ws := Cond.code y bytes 1 none :: WW) B.pre
  have hown : s.vm.findClass y.cls = some m.cls := findClass_of_methodNamed B.named
  have hlocks := B.notSynchronized
  have hin : meth.name = "<init>" := (name_of_methodNamed B.named B.method).1.trans hnm
  subst hsz
  have hD := hD0.self (sz := s.heap.size)
  generalize hAe : va_A wc s.heap.size = A at hD ⊢
  have hA : ∀ q : Nat, s.heap.size ≤ q → A q := fun q h => by rw [← hAe]; exact Or.inr h
  have hS : va_S A s.heap s.heap [] := va_S.rf
  have hl := lv_entry ([.ref h]) (n := 1) (Nat.le_of_ble_eq_true rfl)
  rw [lg_entry_eq]
  generalize (lg_sl ([.ref h]) ++ List.replicate (1 - (lg_sl ([.ref h])).length) Slot.unset).toArray = ls at hl ⊢
  refine body p e s m below meth c A _ ls hx hb hml hown hts hin hl hP hK hD hS hA hext ?_
  intro pc H locs ls u hdg hP hD hS
  exact W.vret hx hb hr (fun t ht hW => ⟨⟨u, rfl, trivial, by rw [ht]; exact hP, va_K.moved hW.alike hK, hD⟩, hS.F ht⟩) hS.2.2 hdg
section XA
variable {p : Program} {l : Launch} {e : Env} {R : Room} {s : State} {m : MethodId} {args : Array Value} {below : List Frame} {meth : Method} {c : Code} {H : Heap} {locs : List Loc} {cells slots : Nat} {Q : State → Prop}
variable {cc : ByteArray} {pc : Nat} {ls : Array Slot} {rest : List Value} {D : va_G} {cA : ClassId} {A : Nat → Prop} {H0 : Heap} {ws : va_W}
theorem xw_newa (hx : p.tables.exec = Jvm.exec) (hb : c.code = cc) (harr : (Cond.arrayClass .int).before args s = true) (hK : va_K D classes [(cA, .int)] s) (hP : va_P D classes ws H) (hD : va_D A ws) (hS : va_S A H0 H locs) (hA : ∀ q, H0.size ≤ q → A q)
    {n : Int32} {N k1 n1 : Nat} (hn : ¬ n < 0) (hN : n.toNatClampNeg = N) (hbytes : N * 4 ≤ 536870912) (hk1 : cells + 1 = k1) (hn1 : slots + N = n1) (hcells : k1 ≤ R.cells) (hslots : n1 ≤ R.slots) (hdg : decode cc pc = .ok (.newarray .int, 2))
    (kk : ∀ (q : Nat) (H1 : Heap), va_P D classes (ws ++ [(q, .inl (cA, N, .inl (fun _ => 0)))]) H1 → va_D A (ws ++ [(q, .inl (cA, N, .inl (fun _ => 0)))]) → va_S A H0 H1 locs →
      W p l e R s m args below meth c H1 locs k1 n1 Q (F0 m (pc + 2) ls (.ref q :: rest))) : W p l e R s m args below meth c H locs cells slots Q (F0 m pc ls (.int n :: rest)) := by
  subst hk1
  subst hn1
  refine va_newa (atype := .int) (ty := .int) (N' := N) (a0 := (N, .inl (fun _ => 0))) hx hb harr rfl hK hP hD hS hA (fun _ => rfl) hn hN hbytes hcells hslots hdg (fun q cA1 H1 hK1 hP1 hD1 hS1 => ?_)
  have e := xa_same hK1
  subst e
  exact kk q H1 hP1 hD1 hS1
end XA
theorem a_4097 : ¬ (4097 : Int32) < 0 := by decide +kernel
theorem z_4097 : (4097 : Int32).toNatClampNeg = 4097 := by decide +kernel
theorem a_4096 : ¬ (4096 : Int32) < 0 := by decide +kernel
theorem z_4096 : (4096 : Int32).toNatClampNeg = 4096 := by decide +kernel
set_option maxHeartbeats 4000000 in
set_option maxRecDepth 100000 in
/-- Tree(): three arrays come -/
theorem c_T_init (l : Launch) (D : va_G) (cA : ClassId) (h hz : Nat) : xm_N l D cA y_T_init b_T_init ({ frames := 1, cells := 3, slots := 12291, locals := 12 }) h [(h, .inr (0, [.null, .null, .null, .int 0]))] hz 3 12291 (fun U => True) (fun u : Nat × Nat × Nat => ce_T cA h u.1 u.2.1 u.2.2 (fun _ => 0) (fun _ => 0) (fun _ => 0) 0) := by
  refine xm_N_of (by decide) rfl ?_
  intro p e s m below meth c A Q ls hx hb hml hown hts hin hl hP hK hD hS hA hZ hret
  have hown : s.vm.findClass "RecentMap$Tree" = some m.cls := hown
  refine lv_aload_n hx hb d_T_init_0 rfl (lv_at hl 0 rfl) ?_
  refine W.objInit hx hb hown (hts (.methodLink "RecentMap$Tree" 3 objectInit) (.tail _ k_26)) (hts (.instanceMethod objectInit) (.tail _ k_20)) (hts (.code objectInit ⟨#[0xb1]⟩ 1 none) (.tail _ k_21)) rfl (by rw [hml]; exact hl.1) rfl d_T_init_1 (Nat.le_of_ble_eq_true rfl) (Nat.le_of_ble_eq_true rfl) ?_
  refine W.eq (g2 := F0 m 4 ls []) rfl ?_
  refine lv_aload_n hx hb d_T_init_4 rfl (lv_at hl 0 rfl) ?_
  refine lv_sipush (v := 4097) hx hb d_T_init_5 (by decide) ?_
  refine xw_newa (k1 := 1) (n1 := 4097) hx hb (hts (.arrayClass .int) (.tail _ k_36)) hK hP hD hS hA a_4097 z_4097 (by decide) rfl rfl (by decide) (by decide) d_T_init_8 (fun q8 H hP hD hS => ?_)
  have hP : va_P D classes [(h, .inr (0, [.null, .null, .null, .int 0])), (q8, .inl (cA, 4097, .inl (fun _ => 0)))] H := hP
  have hD : va_D A [(h, .inr (0, [.null, .null, .null, .int 0])), (q8, .inl (cA, 4097, .inl (fun _ => 0)))] := hD
  refine va_putF (D := D) (ci := 0) (v := .ref q8) (ty := (.array .int)) (C := R_T) (T := F_T) (N := 4) hx hb hts (fun w h => .tail _ (i_T w h)) ty_T ty_T_ok n_T hown hK hP hD hS 0 rfl rfl 0 (by decide) (hts (.fieldLink "RecentMap$Tree" 9 "RecentMap$Tree" "key" "[I") (.tail _ k_27)) (fun _ h9 => h9) rfl hin rfl (by decide +kernel) rfl rfl (Nat.le_of_ble_eq_true rfl) d_T_init_10 (fun H locs hP hD hS => ?_)
  have hP : va_P D classes [(h, .inr (0, [.ref q8, .null, .null, .int 0])), (q8, .inl (cA, 4097, .inl (fun _ => 0)))] H := hP
  have hD : va_D A [(h, .inr (0, [.ref q8, .null, .null, .int 0])), (q8, .inl (cA, 4097, .inl (fun _ => 0)))] := hD
  refine lv_aload_n hx hb d_T_init_13 rfl (lv_at hl 0 rfl) ?_
  refine lv_sipush (v := 4097) hx hb d_T_init_14 (by decide) ?_
  refine xw_newa (k1 := 2) (n1 := 8194) hx hb (hts (.arrayClass .int) (.tail _ k_36)) hK hP hD hS hA a_4097 z_4097 (by decide) rfl rfl (by decide) (by decide) d_T_init_17 (fun q17 H hP hD hS => ?_)
  have hP : va_P D classes [(h, .inr (0, [.ref q8, .null, .null, .int 0])), (q8, .inl (cA, 4097, .inl (fun _ => 0))), (q17, .inl (cA, 4097, .inl (fun _ => 0)))] H := hP
  have hD : va_D A [(h, .inr (0, [.ref q8, .null, .null, .int 0])), (q8, .inl (cA, 4097, .inl (fun _ => 0))), (q17, .inl (cA, 4097, .inl (fun _ => 0)))] := hD
  refine va_putF (D := D) (ci := 0) (v := .ref q17) (ty := (.array .int)) (C := R_T) (T := F_T) (N := 4) hx hb hts (fun w h => .tail _ (i_T w h)) ty_T ty_T_ok n_T hown hK hP hD hS 0 rfl rfl 1 (by decide) (hts (.fieldLink "RecentMap$Tree" 15 "RecentMap$Tree" "small" "[I") (.tail _ k_29)) (fun _ h9 => h9) rfl hin rfl (by decide +kernel) rfl rfl (Nat.le_of_ble_eq_true rfl) d_T_init_19 (fun H locs hP hD hS => ?_)
  have hP : va_P D classes [(h, .inr (0, [.ref q8, .ref q17, .null, .int 0])), (q8, .inl (cA, 4097, .inl (fun _ => 0))), (q17, .inl (cA, 4097, .inl (fun _ => 0)))] H := hP
  have hD : va_D A [(h, .inr (0, [.ref q8, .ref q17, .null, .int 0])), (q8, .inl (cA, 4097, .inl (fun _ => 0))), (q17, .inl (cA, 4097, .inl (fun _ => 0)))] := hD
  refine lv_aload_n hx hb d_T_init_22 rfl (lv_at hl 0 rfl) ?_
  refine lv_sipush (v := 4097) hx hb d_T_init_23 (by decide) ?_
  refine xw_newa (k1 := 3) (n1 := 12291) hx hb (hts (.arrayClass .int) (.tail _ k_36)) hK hP hD hS hA a_4097 z_4097 (by decide) rfl rfl (by decide) (by decide) d_T_init_26 (fun q26 H hP hD hS => ?_)
  have hP : va_P D classes [(h, .inr (0, [.ref q8, .ref q17, .null, .int 0])), (q8, .inl (cA, 4097, .inl (fun _ => 0))), (q17, .inl (cA, 4097, .inl (fun _ => 0))), (q26, .inl (cA, 4097, .inl (fun _ => 0)))] H := hP
  have hD : va_D A [(h, .inr (0, [.ref q8, .ref q17, .null, .int 0])), (q8, .inl (cA, 4097, .inl (fun _ => 0))), (q17, .inl (cA, 4097, .inl (fun _ => 0))), (q26, .inl (cA, 4097, .inl (fun _ => 0)))] := hD
  refine va_putF (D := D) (ci := 0) (v := .ref q26) (ty := (.array .int)) (C := R_T) (T := F_T) (N := 4) hx hb hts (fun w h => .tail _ (i_T w h)) ty_T ty_T_ok n_T hown hK hP hD hS 0 rfl rfl 2 (by decide) (hts (.fieldLink "RecentMap$Tree" 18 "RecentMap$Tree" "great" "[I") (.tail _ k_30)) (fun _ h9 => h9) rfl hin rfl (by decide +kernel) rfl rfl (Nat.le_of_ble_eq_true rfl) d_T_init_28 (fun H locs hP hD hS => ?_)
  have hP : va_P D classes [(h, .inr (0, [.ref q8, .ref q17, .ref q26, .int 0])), (q8, .inl (cA, 4097, .inl (fun _ => 0))), (q17, .inl (cA, 4097, .inl (fun _ => 0))), (q26, .inl (cA, 4097, .inl (fun _ => 0)))] H := hP
  have hD : va_D A [(h, .inr (0, [.ref q8, .ref q17, .ref q26, .int 0])), (q8, .inl (cA, 4097, .inl (fun _ => 0))), (q17, .inl (cA, 4097, .inl (fun _ => 0))), (q26, .inl (cA, 4097, .inl (fun _ => 0)))] := hD
  refine lv_aload_n hx hb d_T_init_31 rfl (lv_at hl 0 rfl) ?_
  refine lv_iconst (v := 0) hx hb d_T_init_32 (by decide) ?_
  refine xp_T hx hb hts hown hK hP hD hS 0 rfl 3 (by decide) k_31 (.int 0) rfl rfl rfl (Nat.le_of_ble_eq_true rfl) d_T_init_33 (fun H locs hP hD hS => ?_)
  have hP : va_P D classes [(h, .inr (0, [.ref q8, .ref q17, .ref q26, .int 0])), (q8, .inl (cA, 4097, .inl (fun _ => 0))), (q17, .inl (cA, 4097, .inl (fun _ => 0))), (q26, .inl (cA, 4097, .inl (fun _ => 0)))] H := hP
  have hD : va_D A [(h, .inr (0, [.ref q8, .ref q17, .ref q26, .int 0])), (q8, .inl (cA, 4097, .inl (fun _ => 0))), (q17, .inl (cA, 4097, .inl (fun _ => 0))), (q26, .inl (cA, 4097, .inl (fun _ => 0)))] := hD
  have hP9 : va_P D classes (ce_T cA h q8 q17 q26 (fun _ => 0) (fun _ => 0) (fun _ => 0) 0) H := hP
  have hD9 : va_D A (ce_T cA h q8 q17 q26 (fun _ => 0) (fun _ => 0) (fun _ => 0) 0) := hD
  exact hret _ _ _ _ (q8, q17, q26) d_T_init_36 hP9 hD9 hS
set_option maxHeartbeats 4000000 in
set_option maxRecDepth 100000 in
/-- RecentMap(): a tree and three arrays come -/
theorem c_X_init (l : Launch) (D : va_G) (cA : ClassId) (hX hz : Nat) : xm_N l D cA y_X_init b_X_init ({ frames := 2, cells := 7, slots := 24586, locals := 32 }) hX [(hX, .inr (1, [.null, .null, .null, .null, .int 0, .int 0, .int 0, .int 0, .int 0]))] hz 7 24586 (fun U => va_Nw (.methodLinkNest "RecentMap" 9 y_T_init "RecentMap") U) (fun u : Nat × Nat × Nat × Nat × Nat × Nat × Nat => ce_X cA hX u.1 u.2.1 u.2.2.1 u.2.2.2.1 u.2.2.2.2.1 u.2.2.2.2.2.1 u.2.2.2.2.2.2 (fun _ => 0) (fun _ => 0) (fun _ => 0) 0 0 0 0 0 (fun _ => 0) (fun _ => 0) (fun _ => 0) 0) := by
  refine xm_N_of (by decide) rfl ?_
  intro p e s m below meth c A Q ls hx hb hml hown hts hin hl hP hK hD hS hA hZ hret
  have hown : s.vm.findClass "RecentMap" = some m.cls := hown
  refine lv_aload_n hx hb d_X_init_0 rfl (lv_at hl 0 rfl) ?_
  refine W.objInit hx hb hown (hts (.methodLink "RecentMap" 1 objectInit) (.tail _ k_19)) (hts (.instanceMethod objectInit) (.tail _ k_20)) (hts (.code objectInit ⟨#[0xb1]⟩ 1 none) (.tail _ k_21)) rfl (by rw [hml]; exact hl.1) rfl d_X_init_1 (Nat.le_of_ble_eq_true rfl) (Nat.le_of_ble_eq_true rfl) ?_
  refine W.eq (g2 := F0 m 4 ls []) rfl ?_
  refine lv_aload_n hx hb d_X_init_4 rfl (lv_at hl 0 rfl) ?_
  refine va_new (ci := 0) (fs := [.null, .null, .null, .int 0]) (C := R_T) (T := F_T) (N := 4) hx hb hts (fun w h => .tail _ (i_T w h)) ty_T ty_T_ok hown (hts (.classLink "RecentMap" 7 "RecentMap$Tree") (.tail _ k_22)) (hts (.instantiable "RecentMap$Tree" 4) (.tail _ k_23)) (hts (.initialized "RecentMap$Tree") (.tail _ k_14)) hK hP hD hS hA rfl (fun j hj => by rcases (show j = 0 ∨ j = 1 ∨ j = 2 ∨ j = 3 by omega) with rfl | rfl | rfl | rfl <;> rfl) (Nat.le_of_ble_eq_true rfl) (Nat.le_of_ble_eq_true rfl) d_X_init_5 (fun q5 H hP hD hS => ?_)
  have hP : va_P D classes [(hX, .inr (1, [.null, .null, .null, .null, .int 0, .int 0, .int 0, .int 0, .int 0])), (q5, .inr (0, [.null, .null, .null, .int 0]))] H := hP
  have hD : va_D A [(hX, .inr (1, [.null, .null, .null, .null, .int 0, .int 0, .int 0, .int 0, .int 0])), (q5, .inr (0, [.null, .null, .null, .int 0]))] := hD
  refine W.widen (k := 1) (n := 4) (by decide) (by decide) ?_
  refine lv_dup hx hb d_X_init_8 rfl ?_
  have hPc := hP.sub (ws' := [(q5, .inr (0, [.null, .null, .null, .int 0]))]) [1] rfl
  have hDc := hD.sub (ws' := [(q5, .inr (0, [.null, .null, .null, .int 0]))]) [1] (by decide) rfl
  have hFc := va_free (wc := [(q5, .inr (0, [.null, .null, .null, .int 0]))]) hD hS hA [1] rfl
  refine va_callv (va_runIN (As := []) (rest := [.ref q5, .ref hX]) ⟨hx, hb, hml, hown, hts⟩ (show Met _ _ _ _ _ _ _ _ _ from c_T_init l D cA q5 H.size) ⟨va_cnB 0 hts (xc_GI (fun _ h => .tail _ h) k_25) rfl rfl rfl hZ (hts (.initialized "RecentMap$Tree") (.tail _ k_14)) (by decide +kernel) ⟨Nat.le_of_ble_eq_true rfl, Nat.le_of_ble_eq_true rfl⟩, rfl, hts (.instanceMethod y_T_init) (.tail _ k_24)⟩ ⟨fun a U g mk q => by obtain ⟨q0, q1, qP, qK, qD, qE⟩ := q; exact ⟨q0, q1, qP, va_K.moved (u := U) (U := U.calling g mk a) (Vm.Alike.refl U.vm) qK, qD, trivial⟩, fun U hU hW => ⟨rfl, by rw [hU], by rw [hU]; exact hPc, va_K.moved hW.alike hK, hDc.weaken (fun _ _ _ _ => trivial), trivial⟩⟩ rfl rfl hl.1 rfl (lv_room (Nat.le_of_ble_eq_true rfl)) d_X_init_9 ⟨Nat.le_of_ble_eq_true rfl, Nat.le_of_ble_eq_true rfl⟩) hS (fun q _ h => hFc q h) hFc (fun u t H1 locs ht hvm hw hB hz1 hk1 hS => ?_)
  obtain ⟨qk, qs, qg⟩ := u
  obtain ⟨hP1, hK1, hD1⟩ := hB
  rw [ht] at hP1
  obtain ⟨hP, hD⟩ := va_join (wr := [(hX, .inr (1, [.null, .null, .null, .null, .int 0, .int 0, .int 0, .int 0, .int 0]))]) (w1 := ce_T cA q5 qk qs qg (fun _ => 0) (fun _ => 0) (fun _ => 0) 0) hP hD [1] [0] rfl rfl (by decide) (by decide) hk1 hFc hP1 hD1
  generalize H1 = H at hP hS ⊢
  have hP : va_P D classes [(hX, .inr (1, [.null, .null, .null, .null, .int 0, .int 0, .int 0, .int 0, .int 0])), (q5, .inr (0, [.ref qk, .ref qs, .ref qg, .int 0])), (qk, .inl (cA, 4097, .inl (fun _ => 0))), (qs, .inl (cA, 4097, .inl (fun _ => 0))), (qg, .inl (cA, 4097, .inl (fun _ => 0)))] H := hP
  have hD : va_D A [(hX, .inr (1, [.null, .null, .null, .null, .int 0, .int 0, .int 0, .int 0, .int 0])), (q5, .inr (0, [.ref qk, .ref qs, .ref qg, .int 0])), (qk, .inl (cA, 4097, .inl (fun _ => 0))), (qs, .inl (cA, 4097, .inl (fun _ => 0))), (qg, .inl (cA, 4097, .inl (fun _ => 0)))] := hD
  refine W.widen (k := 4) (n := 12295) (by decide) (by decide) ?_
  refine va_putF (D := D) (ci := 1) (v := .ref q5) (ty := (.object "RecentMap$Tree")) (C := R_X) (T := F_X) (N := 9) hx hb hts (fun w h => .tail _ (i_X w h)) ty_X ty_X_ok n_X hown hK hP hD hS 0 rfl rfl 0 (by decide) (hts (.fieldLink "RecentMap" 10 "RecentMap" "tree" "LRecentMap$Tree;") (.tail _ k_37)) (fun _ h9 => h9) rfl hin rfl (by decide +kernel) rfl rfl (Nat.le_of_ble_eq_true rfl) d_X_init_12 (fun H locs hP hD hS => ?_)
  have hP : va_P D classes [(hX, .inr (1, [.ref q5, .null, .null, .null, .int 0, .int 0, .int 0, .int 0, .int 0])), (q5, .inr (0, [.ref qk, .ref qs, .ref qg, .int 0])), (qk, .inl (cA, 4097, .inl (fun _ => 0))), (qs, .inl (cA, 4097, .inl (fun _ => 0))), (qg, .inl (cA, 4097, .inl (fun _ => 0)))] H := hP
  have hD : va_D A [(hX, .inr (1, [.ref q5, .null, .null, .null, .int 0, .int 0, .int 0, .int 0, .int 0])), (q5, .inr (0, [.ref qk, .ref qs, .ref qg, .int 0])), (qk, .inl (cA, 4097, .inl (fun _ => 0))), (qs, .inl (cA, 4097, .inl (fun _ => 0))), (qg, .inl (cA, 4097, .inl (fun _ => 0)))] := hD
  refine lv_aload_n hx hb d_X_init_15 rfl (lv_at hl 0 rfl) ?_
  refine lv_sipush (v := 4097) hx hb d_X_init_16 (by decide) ?_
  refine xw_newa (k1 := 5) (n1 := 16392) hx hb (hts (.arrayClass .int) (.tail _ k_36)) hK hP hD hS hA a_4097 z_4097 (by decide) rfl rfl (by decide) (by decide) d_X_init_19 (fun q19 H hP hD hS => ?_)
  have hP : va_P D classes [(hX, .inr (1, [.ref q5, .null, .null, .null, .int 0, .int 0, .int 0, .int 0, .int 0])), (q5, .inr (0, [.ref qk, .ref qs, .ref qg, .int 0])), (qk, .inl (cA, 4097, .inl (fun _ => 0))), (qs, .inl (cA, 4097, .inl (fun _ => 0))), (qg, .inl (cA, 4097, .inl (fun _ => 0))), (q19, .inl (cA, 4097, .inl (fun _ => 0)))] H := hP
  have hD : va_D A [(hX, .inr (1, [.ref q5, .null, .null, .null, .int 0, .int 0, .int 0, .int 0, .int 0])), (q5, .inr (0, [.ref qk, .ref qs, .ref qg, .int 0])), (qk, .inl (cA, 4097, .inl (fun _ => 0))), (qs, .inl (cA, 4097, .inl (fun _ => 0))), (qg, .inl (cA, 4097, .inl (fun _ => 0))), (q19, .inl (cA, 4097, .inl (fun _ => 0)))] := hD
  refine va_putF (D := D) (ci := 1) (v := .ref q19) (ty := (.array .int)) (C := R_X) (T := F_X) (N := 9) hx hb hts (fun w h => .tail _ (i_X w h)) ty_X ty_X_ok n_X hown hK hP hD hS 0 rfl rfl 1 (by decide) (hts (.fieldLink "RecentMap" 16 "RecentMap" "value" "[I") (.tail _ k_38)) (fun _ h9 => h9) rfl hin rfl (by decide +kernel) rfl rfl (Nat.le_of_ble_eq_true rfl) d_X_init_21 (fun H locs hP hD hS => ?_)
  have hP : va_P D classes [(hX, .inr (1, [.ref q5, .ref q19, .null, .null, .int 0, .int 0, .int 0, .int 0, .int 0])), (q5, .inr (0, [.ref qk, .ref qs, .ref qg, .int 0])), (qk, .inl (cA, 4097, .inl (fun _ => 0))), (qs, .inl (cA, 4097, .inl (fun _ => 0))), (qg, .inl (cA, 4097, .inl (fun _ => 0))), (q19, .inl (cA, 4097, .inl (fun _ => 0)))] H := hP
  have hD : va_D A [(hX, .inr (1, [.ref q5, .ref q19, .null, .null, .int 0, .int 0, .int 0, .int 0, .int 0])), (q5, .inr (0, [.ref qk, .ref qs, .ref qg, .int 0])), (qk, .inl (cA, 4097, .inl (fun _ => 0))), (qs, .inl (cA, 4097, .inl (fun _ => 0))), (qg, .inl (cA, 4097, .inl (fun _ => 0))), (q19, .inl (cA, 4097, .inl (fun _ => 0)))] := hD
  refine lv_aload_n hx hb d_X_init_24 rfl (lv_at hl 0 rfl) ?_
  refine lv_sipush (v := 4097) hx hb d_X_init_25 (by decide) ?_
  refine xw_newa (k1 := 6) (n1 := 20489) hx hb (hts (.arrayClass .int) (.tail _ k_36)) hK hP hD hS hA a_4097 z_4097 (by decide) rfl rfl (by decide) (by decide) d_X_init_28 (fun q28 H hP hD hS => ?_)
  have hP : va_P D classes [(hX, .inr (1, [.ref q5, .ref q19, .null, .null, .int 0, .int 0, .int 0, .int 0, .int 0])), (q5, .inr (0, [.ref qk, .ref qs, .ref qg, .int 0])), (qk, .inl (cA, 4097, .inl (fun _ => 0))), (qs, .inl (cA, 4097, .inl (fun _ => 0))), (qg, .inl (cA, 4097, .inl (fun _ => 0))), (q19, .inl (cA, 4097, .inl (fun _ => 0))), (q28, .inl (cA, 4097, .inl (fun _ => 0)))] H := hP
  have hD : va_D A [(hX, .inr (1, [.ref q5, .ref q19, .null, .null, .int 0, .int 0, .int 0, .int 0, .int 0])), (q5, .inr (0, [.ref qk, .ref qs, .ref qg, .int 0])), (qk, .inl (cA, 4097, .inl (fun _ => 0))), (qs, .inl (cA, 4097, .inl (fun _ => 0))), (qg, .inl (cA, 4097, .inl (fun _ => 0))), (q19, .inl (cA, 4097, .inl (fun _ => 0))), (q28, .inl (cA, 4097, .inl (fun _ => 0)))] := hD
  refine va_putF (D := D) (ci := 1) (v := .ref q28) (ty := (.array .int)) (C := R_X) (T := F_X) (N := 9) hx hb hts (fun w h => .tail _ (i_X w h)) ty_X ty_X_ok n_X hown hK hP hD hS 0 rfl rfl 2 (by decide) (hts (.fieldLink "RecentMap" 20 "RecentMap" "before" "[I") (.tail _ k_39)) (fun _ h9 => h9) rfl hin rfl (by decide +kernel) rfl rfl (Nat.le_of_ble_eq_true rfl) d_X_init_30 (fun H locs hP hD hS => ?_)
  have hP : va_P D classes [(hX, .inr (1, [.ref q5, .ref q19, .ref q28, .null, .int 0, .int 0, .int 0, .int 0, .int 0])), (q5, .inr (0, [.ref qk, .ref qs, .ref qg, .int 0])), (qk, .inl (cA, 4097, .inl (fun _ => 0))), (qs, .inl (cA, 4097, .inl (fun _ => 0))), (qg, .inl (cA, 4097, .inl (fun _ => 0))), (q19, .inl (cA, 4097, .inl (fun _ => 0))), (q28, .inl (cA, 4097, .inl (fun _ => 0)))] H := hP
  have hD : va_D A [(hX, .inr (1, [.ref q5, .ref q19, .ref q28, .null, .int 0, .int 0, .int 0, .int 0, .int 0])), (q5, .inr (0, [.ref qk, .ref qs, .ref qg, .int 0])), (qk, .inl (cA, 4097, .inl (fun _ => 0))), (qs, .inl (cA, 4097, .inl (fun _ => 0))), (qg, .inl (cA, 4097, .inl (fun _ => 0))), (q19, .inl (cA, 4097, .inl (fun _ => 0))), (q28, .inl (cA, 4097, .inl (fun _ => 0)))] := hD
  refine lv_aload_n hx hb d_X_init_33 rfl (lv_at hl 0 rfl) ?_
  refine lv_sipush (v := 4097) hx hb d_X_init_34 (by decide) ?_
  refine xw_newa (k1 := 7) (n1 := 24586) hx hb (hts (.arrayClass .int) (.tail _ k_36)) hK hP hD hS hA a_4097 z_4097 (by decide) rfl rfl (by decide) (by decide) d_X_init_37 (fun q37 H hP hD hS => ?_)
  have hP : va_P D classes [(hX, .inr (1, [.ref q5, .ref q19, .ref q28, .null, .int 0, .int 0, .int 0, .int 0, .int 0])), (q5, .inr (0, [.ref qk, .ref qs, .ref qg, .int 0])), (qk, .inl (cA, 4097, .inl (fun _ => 0))), (qs, .inl (cA, 4097, .inl (fun _ => 0))), (qg, .inl (cA, 4097, .inl (fun _ => 0))), (q19, .inl (cA, 4097, .inl (fun _ => 0))), (q28, .inl (cA, 4097, .inl (fun _ => 0))), (q37, .inl (cA, 4097, .inl (fun _ => 0)))] H := hP
  have hD : va_D A [(hX, .inr (1, [.ref q5, .ref q19, .ref q28, .null, .int 0, .int 0, .int 0, .int 0, .int 0])), (q5, .inr (0, [.ref qk, .ref qs, .ref qg, .int 0])), (qk, .inl (cA, 4097, .inl (fun _ => 0))), (qs, .inl (cA, 4097, .inl (fun _ => 0))), (qg, .inl (cA, 4097, .inl (fun _ => 0))), (q19, .inl (cA, 4097, .inl (fun _ => 0))), (q28, .inl (cA, 4097, .inl (fun _ => 0))), (q37, .inl (cA, 4097, .inl (fun _ => 0)))] := hD
  refine va_putF (D := D) (ci := 1) (v := .ref q37) (ty := (.array .int)) (C := R_X) (T := F_X) (N := 9) hx hb hts (fun w h => .tail _ (i_X w h)) ty_X ty_X_ok n_X hown hK hP hD hS 0 rfl rfl 3 (by decide) (hts (.fieldLink "RecentMap" 23 "RecentMap" "behind" "[I") (.tail _ k_40)) (fun _ h9 => h9) rfl hin rfl (by decide +kernel) rfl rfl (Nat.le_of_ble_eq_true rfl) d_X_init_39 (fun H locs hP hD hS => ?_)
  have hP : va_P D classes [(hX, .inr (1, [.ref q5, .ref q19, .ref q28, .ref q37, .int 0, .int 0, .int 0, .int 0, .int 0])), (q5, .inr (0, [.ref qk, .ref qs, .ref qg, .int 0])), (qk, .inl (cA, 4097, .inl (fun _ => 0))), (qs, .inl (cA, 4097, .inl (fun _ => 0))), (qg, .inl (cA, 4097, .inl (fun _ => 0))), (q19, .inl (cA, 4097, .inl (fun _ => 0))), (q28, .inl (cA, 4097, .inl (fun _ => 0))), (q37, .inl (cA, 4097, .inl (fun _ => 0)))] H := hP
  have hD : va_D A [(hX, .inr (1, [.ref q5, .ref q19, .ref q28, .ref q37, .int 0, .int 0, .int 0, .int 0, .int 0])), (q5, .inr (0, [.ref qk, .ref qs, .ref qg, .int 0])), (qk, .inl (cA, 4097, .inl (fun _ => 0))), (qs, .inl (cA, 4097, .inl (fun _ => 0))), (qg, .inl (cA, 4097, .inl (fun _ => 0))), (q19, .inl (cA, 4097, .inl (fun _ => 0))), (q28, .inl (cA, 4097, .inl (fun _ => 0))), (q37, .inl (cA, 4097, .inl (fun _ => 0)))] := hD
  have hP9 : va_P D classes (ce_X cA hX q5 q19 q28 q37 qk qs qg (fun _ => 0) (fun _ => 0) (fun _ => 0) 0 0 0 0 0 (fun _ => 0) (fun _ => 0) (fun _ => 0) 0) H := hP.sub [0, 5, 6, 7, 1, 2, 3, 4] rfl
  have hD9 : va_D A (ce_X cA hX q5 q19 q28 q37 qk qs qg (fun _ => 0) (fun _ => 0) (fun _ => 0) 0 0 0 0 0 (fun _ => 0) (fun _ => 0) (fun _ => 0) 0) := hD.sub [0, 5, 6, 7, 1, 2, 3, 4] (by decide) rfl
  exact hret _ _ _ _ (q5, q19, q28, q37, qk, qs, qg) d_X_init_42 hP9 hD9 hS
set_option maxHeartbeats 4000000 in
set_option maxRecDepth 100000 in
/-- RecentMapModel(): two arrays come -/
theorem c_M_init (l : Launch) (D : va_G) (cA : ClassId) (hM hz : Nat) : xm_N l D cA y_M_init b_M_init ({ frames := 1, cells := 2, slots := 8192, locals := 12 }) hM [(hM, .inr (2, [.null, .null, .int 0]))] hz 2 8192 (fun U => True) (fun u : Nat × Nat => ce_M cA hM u.1 u.2 (fun _ => 0) (fun _ => 0) 0) := by
  refine xm_N_of (by decide) rfl ?_
  intro p e s m below meth c A Q ls hx hb hml hown hts hin hl hP hK hD hS hA hZ hret
  have hown : s.vm.findClass "RecentMapModel" = some m.cls := hown
  refine lv_aload_n hx hb d_M_init_0 rfl (lv_at hl 0 rfl) ?_
  refine W.objInit hx hb hown (hts (.methodLink "RecentMapModel" 1 objectInit) (.tail _ k_138)) (hts (.instanceMethod objectInit) (.tail _ k_20)) (hts (.code objectInit ⟨#[0xb1]⟩ 1 none) (.tail _ k_21)) rfl (by rw [hml]; exact hl.1) rfl d_M_init_1 (Nat.le_of_ble_eq_true rfl) (Nat.le_of_ble_eq_true rfl) ?_
  refine W.eq (g2 := F0 m 4 ls []) rfl ?_
  refine lv_aload_n hx hb d_M_init_4 rfl (lv_at hl 0 rfl) ?_
  refine lv_sipush (v := 4096) hx hb d_M_init_5 (by decide) ?_
  refine xw_newa (k1 := 1) (n1 := 4096) hx hb (hts (.arrayClass .int) (.tail _ k_36)) hK hP hD hS hA a_4096 z_4096 (by decide) rfl rfl (by decide) (by decide) d_M_init_8 (fun q8 H hP hD hS => ?_)
  have hP : va_P D classes [(hM, .inr (2, [.null, .null, .int 0])), (q8, .inl (cA, 4096, .inl (fun _ => 0)))] H := hP
  have hD : va_D A [(hM, .inr (2, [.null, .null, .int 0])), (q8, .inl (cA, 4096, .inl (fun _ => 0)))] := hD
  refine va_putF (D := D) (ci := 2) (v := .ref q8) (ty := (.array .int)) (C := R_M) (T := F_M) (N := 3) hx hb hts (fun w h => .tail _ (i_M w h)) ty_M ty_M_ok n_M hown hK hP hD hS 0 rfl rfl 0 (by decide) (hts (.fieldLink "RecentMapModel" 7 "RecentMapModel" "keys" "[I") (.tail _ k_139)) (fun _ h9 => h9) rfl hin rfl (by decide +kernel) rfl rfl (Nat.le_of_ble_eq_true rfl) d_M_init_10 (fun H locs hP hD hS => ?_)
  have hP : va_P D classes [(hM, .inr (2, [.ref q8, .null, .int 0])), (q8, .inl (cA, 4096, .inl (fun _ => 0)))] H := hP
  have hD : va_D A [(hM, .inr (2, [.ref q8, .null, .int 0])), (q8, .inl (cA, 4096, .inl (fun _ => 0)))] := hD
  refine lv_aload_n hx hb d_M_init_13 rfl (lv_at hl 0 rfl) ?_
  refine lv_sipush (v := 4096) hx hb d_M_init_14 (by decide) ?_
  refine xw_newa (k1 := 2) (n1 := 8192) hx hb (hts (.arrayClass .int) (.tail _ k_36)) hK hP hD hS hA a_4096 z_4096 (by decide) rfl rfl (by decide) (by decide) d_M_init_17 (fun q17 H hP hD hS => ?_)
  have hP : va_P D classes [(hM, .inr (2, [.ref q8, .null, .int 0])), (q8, .inl (cA, 4096, .inl (fun _ => 0))), (q17, .inl (cA, 4096, .inl (fun _ => 0)))] H := hP
  have hD : va_D A [(hM, .inr (2, [.ref q8, .null, .int 0])), (q8, .inl (cA, 4096, .inl (fun _ => 0))), (q17, .inl (cA, 4096, .inl (fun _ => 0)))] := hD
  refine va_putF (D := D) (ci := 2) (v := .ref q17) (ty := (.array .int)) (C := R_M) (T := F_M) (N := 3) hx hb hts (fun w h => .tail _ (i_M w h)) ty_M ty_M_ok n_M hown hK hP hD hS 0 rfl rfl 1 (by decide) (hts (.fieldLink "RecentMapModel" 13 "RecentMapModel" "vals" "[I") (.tail _ k_140)) (fun _ h9 => h9) rfl hin rfl (by decide +kernel) rfl rfl (Nat.le_of_ble_eq_true rfl) d_M_init_19 (fun H locs hP hD hS => ?_)
  have hP : va_P D classes [(hM, .inr (2, [.ref q8, .ref q17, .int 0])), (q8, .inl (cA, 4096, .inl (fun _ => 0))), (q17, .inl (cA, 4096, .inl (fun _ => 0)))] H := hP
  have hD : va_D A [(hM, .inr (2, [.ref q8, .ref q17, .int 0])), (q8, .inl (cA, 4096, .inl (fun _ => 0))), (q17, .inl (cA, 4096, .inl (fun _ => 0)))] := hD
  have hP9 : va_P D classes (ce_M cA hM q8 q17 (fun _ => 0) (fun _ => 0) 0) H := hP
  have hD9 : va_D A (ce_M cA hM q8 q17 (fun _ => 0) (fun _ => 0) 0) := hD
  exact hret _ _ _ _ (q8, q17) d_M_init_22 hP9 hD9 hS
end
section
/-! THE CLAIM OUT OF ONE WALK OF THE LAW'S BODY. Your part is whole_start (and what it stands on); all else here is the same for every law, but numbers. -/
def R_law : String := "RecentMapLaw"
def lw_P (b : Addr) (xs : List Int32) (args : Array Value) (s : State) : Prop := args = #[.ref b] ∧ s.IntsAt b xs ∧ xs.length ≤ 1536 ∧ (Jvm.Cond.and given_1 narrow_1).before args s = true
def lw_Q (_ : Array Value) (s : State) (o : Outcome) (t : State) : Prop := o = .returned (some (.int 1)) ∧ Framed s o t [] 11 32790
def lw_Z (below : List Frame) (a : Array Value) (s : State) : State → Prop := fun t => ∃ o, t.status = .running ∧ Ended t below o ∧ lw_Q a s o t
/-- the law's own end, with 1 on the stack, nothing written that was there before, its room as the claim has it -/
theorem lw_ret {p : Program} {l : Launch} {e : Env} {s : State} {m : MethodId} {below : List Frame} {meth : Method} {c : Code} {b : Nat} (hx : p.tables.exec = Jvm.exec) (hb : c.code = code) (hr : meth.sig.returnType = ret) (hlocks : meth.locks = false) {pc : Nat} {H : Heap} {ls : Array Slot} (hdg : decode code pc = .ok (.ireturn, 1)) : W p l e room_1 s m #[Value.ref b] below meth c H [] 11 32790 (lw_Z below #[Value.ref b] s) (F0 m pc ls [.int 1]) := by
  intro T hT X
  obtain ⟨fs, hret, hrun, hended, hW, hframe⟩ := X.leave (v := some (.int 1)) (hlocks := hlocks) (fun h => by rw [hr] at h; cases h)
  have hmeth' : T.vm.method? m = some meth := X.method'
  refine ⟨T.setFrames fs, ?_, .returned (some (.int 1)), hrun, hended, rfl, ⟨_, rfl⟩, hW, hframe⟩
  jvm_step X.here [X.here.top, hx, hb, hdg, hmeth', hr, ret, narrow_b1]
  (try refine ⟨rfl, ?_⟩); (try refine ⟨rfl, ?_⟩)
  first | (intro acts; rw [hret _ acts rfl rfl rfl]) | rw [hret _ _ rfl rfl rfl]
  exact Steps.refl _
/-- what holds at the law's entry: the machine, the code, the tables' words (any of lw_tbl by 'hts w (by decide +kernel)'), the script of L ints xs at the cell b, what the Statement gives of the start (any of its parts by flat_of_before) -/
def lw_At (p : Program) (s : State) (m : MethodId) (meth : Method) (c : Code) (b L : Nat) (xs : Nat → Int32) : Prop :=
  p.tables.exec = Jvm.exec ∧ c.code = code ∧ meth.sig.returnType = ret ∧ c.maxLocals = 4 ∧ s.vm.findClass R_law = some m.cls ∧ (∀ w ∈ lw_tbl, w.before #[Value.ref b] s = true) ∧ va_X b L xs s s.heap ∧ b < s.heap.size ∧ meth.locks = false ∧ (Jvm.Cond.and given_1 narrow_1).before #[Value.ref b] s = true
end
section
/-! THE LAW (printed by gen/law.py) -/
abbrev ce_L (cA : ClassId) (hX h qv qb qh qk qs qg : Nat) (vl : Nat → Int32) (bf bh : Nat → Nat) (fr bk n us fe : Nat) (key : Nat → Int32) (sm gr : Nat → Nat) (root : Nat) (hM qa qc : Nat) (ks vs : Nat → Int32) (nm : Nat) : va_W := ce_X cA hX h qv qb qh qk qs qg vl bf bh fr bk n us fe key sm gr root ++ ce_M cA hM qa qc ks vs nm
section LS
variable {p : Program} {l : Launch} {e : Env} {R : Room} {s : State} {m : MethodId} {args : Array Value} {below : List Frame} {meth : Method} {c : Code} {H : Heap} {locs : List Loc} {cells slots : Nat} {Q : State → Prop} {cc : ByteArray} {pc : Nat} {ls : Array Slot} {rest : List Value} {A : Nat → Prop} {H0 : Heap}
theorem xs_ald (hx : p.tables.exec = Jvm.exec) (hb : c.code = cc) {b L : Nat} {xs : Nat → Int32} (hX : va_X b L xs s H0) (hbl : b < H0.size) (hbA : ¬ A b) (hS : va_S A H0 H locs) (i : Nat) (hi : i < L) (hL : L < 2 ^ 31) (hdg : decode cc pc = .ok (.iaload, 1))
    (kk : W p l e R s m args below meth c H locs cells slots Q (F0 m (pc + 1) ls (.int (xs i) :: rest))) : W p l e R s m args below meth c H locs cells slots Q (F0 m pc ls (.int (nI i) :: .ref b :: rest)) := by
  refine va_sld hx hb hX hbl hbA hS (vp_in_nI hi hL) hdg ?_
  rw [nI_clamp (Nat.lt_trans hi hL)]
  exact kk
end LS
theorem xs_gt {a b : Nat} (ha : a < 2 ^ 30) (hb : b < 2 ^ 30) : nI a - 3 < nI b ↔ a < b + 3 := by
  have h1 : (nI a - nI 3).toInt = (a : Int) - (3 : Nat) := pk_sub_toInt ha (by decide)
  have h2 : (nI b).toInt = (b : Int) := nI_toInt (by omega)
  rw [show (3 : Int32) = nI 3 from rfl, Int32.lt_iff_toInt_lt, h1, h2]
  omega
set_option maxHeartbeats 8000000 in
set_option maxRecDepth 100000 in
/-- the loop of the law: behind j calls both sides stand for the same list -/
theorem law_loop {p : Program} {l : Launch} {e : Env} {s : State} {m : MethodId} {below : List Frame} {meth : Method} {c : Code} {D : va_G} {cA : ClassId} {b L : Nat} {xs : Nat → Int32} {hX h qv qb qh qk qs qg hM qa qc : Nat} {A : Nat → Prop} (hAd : A = fun q : Nat => s.heap.size ≤ q) (hL : L ≤ 1536) (C0 : lw_At p s m meth c b L xs) (hK : va_K D classes [(cA, .int)] s) : ∀ (d : Nat), ∀ (j : Nat) (vl : Nat → Int32) (bf bh : Nat → Nat) (fr bk n us fe : Nat) (key : Nat → Int32) (sm gr : Nat → Nat) (root : Nat) (ks vs : Nat → Int32) (nm : Nat) (M : List (Int32 × Int32)) (H : Heap) (locs : List Loc) (ls : Array Slot), 3 * j ≤ L → L ≤ 3 * j + 3 * d + 2 → rm_I j vl bf bh fr bk n us fe key sm gr root M → ml_L ks vs 0 nm = M → nm ≤ j → va_P D classes (ce_L cA hX h qv qb qh qk qs qg vl bf bh fr bk n us fe key sm gr root hM qa qc ks vs nm) H → va_D A (ce_L cA hX h qv qb qh qk qs qg vl bf bh fr bk n us fe key sm gr root hM qa qc ks vs nm) → va_S A s.heap H locs → lv_has ls 4 [(0, .ref b), (1, .ref hX), (2, .ref hM), (3, .int (nI (3 * j)))] → W p l e room_1 s m #[Value.ref b] below meth c H locs 11 32790 (lw_Z below #[Value.ref b] s) (F0 m 18 ls []) := by
  obtain ⟨hx, hb, hr, hml, hown, hts, hsc, hbl, hlocks, hgv⟩ := C0
  have hown : s.vm.findClass "RecentMapLaw" = some m.cls := hown
  have hA : ∀ q : Nat, s.heap.size ≤ q → A q := fun q h => by rw [hAd]; exact h
  have hbA : ¬ A b := by rw [hAd]; exact Nat.not_le.mpr hbl
  have hexit : ∀ (H : Heap) (locs : List Loc) (ls : Array Slot), va_S A s.heap H locs → W p l e room_1 s m #[Value.ref b] below meth c H locs 11 32790 (lw_Z below #[Value.ref b] s) (F0 m 373 ls []) := by
    intro H locs ls hS
    refine lv_iconst (v := 1) hx hb d_law_law_373 (by decide) ?_
    refine va_forget (fun q hq => by have := hS.2.2 q hq; rw [hAd] at this; exact this) ?_
    exact lw_ret hx hb hr hlocks d_law_law_374
  intro d
  induction d with
  | zero =>
    intro j vl bf bh fr bk n us fe key sm gr root ks vs nm M H locs ls hjL hd hI heq hnm hP hD hS hl
    refine lv_iload_n hx hb d_law_law_18 rfl (lv_at hl 3 rfl) ?_
    refine lv_aload_n hx hb d_law_law_19 rfl (lv_at hl 0 rfl) ?_
    refine va_slen hx hb hsc hbl hbA hS d_law_law_20 ?_
    refine lv_iconst (v := 3) hx hb d_law_law_21 (by decide) ?_
    refine lv_isub hx hb d_law_law_22 ?_
    refine lv_icmp_gt (tgt := 373) hx hb d_law_law_23 (by decide) (fun _ => hexit H locs ls hS) (fun q => absurd ((xs_gt (by omega) (by omega)).mpr (by omega)) q)
  | succ d ih =>
    intro j vl bf bh fr bk n us fe key sm gr root ks vs nm M H locs ls hjL hd hI heq hnm hP hD hS hl
    refine lv_iload_n hx hb d_law_law_18 rfl (lv_at hl 3 rfl) ?_
    refine lv_aload_n hx hb d_law_law_19 rfl (lv_at hl 0 rfl) ?_
    refine va_slen hx hb hsc hbl hbA hS d_law_law_20 ?_
    refine lv_iconst (v := 3) hx hb d_law_law_21 (by decide) ?_
    refine lv_isub hx hb d_law_law_22 ?_
    refine lv_icmp_gt (tgt := 373) hx hb d_law_law_23 (by decide) (fun _ => hexit H locs ls hS) (fun cq => ?_)
    have hlt : 3 * j + 3 ≤ L := by
      rcases Nat.lt_or_ge L (3 * j + 3) with q | q
      · exact absurd ((xs_gt (by omega) (by omega)).mpr q) cq
      · exact q
    have hj : j < 4000 := by omega
    have hnm4 : nm < 4000 := by omega
    have hL31 : L < 2 ^ 31 := by omega
    have ht : ∀ (vl : Nat → Int32) (bf bh : Nat → Nat) (fr bk n us fe : Nat) (key : Nat → Int32) (sm gr : Nat → Nat) (root : Nat) (ks vs : Nat → Int32) (nm : Nat) (M : List (Int32 × Int32)) (H : Heap) (locs : List Loc), rm_I (j + 1) vl bf bh fr bk n us fe key sm gr root M → ml_L ks vs 0 nm = M → nm ≤ j + 1 → va_P D classes (ce_L cA hX h qv qb qh qk qs qg vl bf bh fr bk n us fe key sm gr root hM qa qc ks vs nm) H → va_D A (ce_L cA hX h qv qb qh qk qs qg vl bf bh fr bk n us fe key sm gr root hM qa qc ks vs nm) → va_S A s.heap H locs → W p l e room_1 s m #[Value.ref b] below meth c H locs 11 32790 (lw_Z below #[Value.ref b] s) (F0 m 367 ls []) := by
      intro vl bf bh fr bk n us fe key sm gr root ks vs nm M H locs hI heq hnm hP hD hS
      refine lv_iinc (v := nI (3 * (j + 1))) (lv' := [(3, .int (nI (3 * (j + 1)))), (0, .ref b), (1, .ref hX), (2, .ref hM)]) hx hb d_law_law_367 hl (k := 3) rfl (by rw [show Int32.ofInt 3 = nI 3 from rfl, nI_add, show 3 * (j + 1) = 3 * j + 3 by omega]) (by decide) rfl (fun ls hl => ?_)
      refine lv_goto (tgt := 18) hx hb d_law_law_370 (by decide) ?_
      exact ih (j + 1) vl bf bh fr bk n us fe key sm gr root ks vs nm M _ _ _ (by omega) (by omega) hI heq hnm hP hD hS (lv_sub hl [1, 2, 3, 0] rfl)
    refine lv_aload_n hx hb d_law_law_26 rfl (lv_at hl 0 rfl) ?_
    refine lv_iload_n hx hb d_law_law_27 rfl (lv_at hl 3 rfl) ?_
    refine xs_ald hx hb hsc hbl hbA hS (3 * j) (by omega) hL31 d_law_law_28 ?_
    refine lv_bipush (v := 15) hx hb d_law_law_29 (by decide) ?_
    refine lv_iand hx hb d_law_law_31 ?_
    obtain ⟨w, hw16, ew⟩ := pk_andE (xs (3 * j)) (m := 15) 4 (by decide)
    refine xi_top (nI w) ew ?_
    rcases (show w = 0 ∨ w = 1 ∨ w = 2 ∨ w = 3 ∨ w = 4 ∨ w = 5 ∨ w = 6 ∨ w = 7 ∨ w = 8 ∨ w = 9 ∨ w = 10 ∨ w = 11 ∨ w = 12 ∨ (w = 13 ∨ w = 14 ∨ w = 15) by omega) with rfl | rfl | rfl | rfl | rfl | rfl | rfl | rfl | rfl | rfl | rfl | rfl | rfl | hw
    · refine lv_tableIn (tgt := 100) hx hb d_law_law_32 (by decide) (by decide) rfl (by decide) ?_
      refine lv_aload_n hx hb d_law_law_100 rfl (lv_at hl 1 rfl) ?_
      refine lv_aload_n hx hb d_law_law_101 rfl (lv_at hl 0 rfl) ?_
      refine lv_iload_n hx hb d_law_law_102 rfl (lv_at hl 3 rfl) ?_
      refine lv_iconst (v := 1) hx hb d_law_law_103 (by decide) ?_
      refine lv_iadd hx hb d_law_law_104 ?_
      refine xi_top (nI (3 * j + 1)) (nI_add _ 1) ?_
      refine xs_ald hx hb hsc hbl hbA hS (3 * j + 1) (by omega) hL31 d_law_law_105 ?_
      refine lv_aload_n hx hb d_law_law_106 rfl (lv_at hl 0 rfl) ?_
      refine lv_iload_n hx hb d_law_law_107 rfl (lv_at hl 3 rfl) ?_
      refine lv_iconst (v := 2) hx hb d_law_law_108 (by decide) ?_
      refine lv_iadd hx hb d_law_law_109 ?_
      refine xi_top (nI (3 * j + 2)) (nI_add _ 2) ?_
      refine xs_ald hx hb hsc hbl hbA hS (3 * j + 2) (by omega) hL31 d_law_law_110 ?_
      refine xc_I (n := 2) (As := [.int (xs (3 * j + 1)), .int (xs (3 * j + 2))]) (rest := []) (wr := ce_M cA hM qa qc ks vs nm) (wc := ce_X cA hX h qv qb qh qk qs qg vl bf bh fr bk n us fe key sm gr root) hx hb hml hown hts (c_X_put l D cA hX h qv qb qh qk qs qg _ vl bf bh fr bk n us fe key sm gr root (xs (3 * j + 1)) (xs (3 * j + 2)) j M hI hj) (xc_G WW_tbl (List.mem_append_right _ (List.mem_append_left _ (List.mem_of_getElem? (i := 61) rfl))) k_55 k_56 k_13 k_57) (by decide +kernel) ⟨rfl, rfl⟩ ⟨Nat.le_of_ble_eq_true rfl, Nat.le_of_ble_eq_true rfl⟩ hK hP hD hS hA [0, 1, 2, 3, 4, 5, 6, 7] [8, 9, 10] rfl rfl rfl rfl rfl (by decide) rfl rfl rfl rfl hl.1 rfl (Nat.le_of_ble_eq_true rfl) d_law_law_111 ⟨by decide, by decide⟩ (fun rX u H locs hwX hP hD hS => ?_)
      obtain ⟨vl2, bf2, bh2, fr2, bk2, n2, us2, fe2, key2, sm2, gr2, root2⟩ := u
      dsimp only at hwX
      obtain ⟨eX, hI2⟩ := hwX
      have hP : va_P D classes (ce_L cA hX h qv qb qh qk qs qg vl2 bf2 bh2 fr2 bk2 n2 us2 fe2 key2 sm2 gr2 root2 hM qa qc ks vs nm) H := hP.sub [3, 4, 5, 6, 7, 8, 9, 10, 0, 1, 2] rfl
      have hD : va_D A (ce_L cA hX h qv qb qh qk qs qg vl2 bf2 bh2 fr2 bk2 n2 us2 fe2 key2 sm2 gr2 root2 hM qa qc ks vs nm) := hD.sub [3, 4, 5, 6, 7, 8, 9, 10, 0, 1, 2] (by decide) rfl
      refine lv_aload_n hx hb d_law_law_114 rfl (lv_at hl 2 rfl) ?_
      refine lv_aload_n hx hb d_law_law_115 rfl (lv_at hl 0 rfl) ?_
      refine lv_iload_n hx hb d_law_law_116 rfl (lv_at hl 3 rfl) ?_
      refine lv_iconst (v := 1) hx hb d_law_law_117 (by decide) ?_
      refine lv_iadd hx hb d_law_law_118 ?_
      refine xi_top (nI (3 * j + 1)) (nI_add _ 1) ?_
      refine xs_ald hx hb hsc hbl hbA hS (3 * j + 1) (by omega) hL31 d_law_law_119 ?_
      refine lv_aload_n hx hb d_law_law_120 rfl (lv_at hl 0 rfl) ?_
      refine lv_iload_n hx hb d_law_law_121 rfl (lv_at hl 3 rfl) ?_
      refine lv_iconst (v := 2) hx hb d_law_law_122 (by decide) ?_
      refine lv_iadd hx hb d_law_law_123 ?_
      refine xi_top (nI (3 * j + 2)) (nI_add _ 2) ?_
      refine xs_ald hx hb hsc hbl hbA hS (3 * j + 2) (by omega) hL31 d_law_law_124 ?_
      refine xc_I (n := 2) (As := [.int (xs (3 * j + 1)), .int (xs (3 * j + 2))]) (rest := [.int rX]) (wr := ce_X cA hX h qv qb qh qk qs qg vl2 bf2 bh2 fr2 bk2 n2 us2 fe2 key2 sm2 gr2 root2) (wc := ce_M cA hM qa qc ks vs nm) hx hb hml hown hts (c_M_put l D cA hM qa qc _ ks vs nm (xs (3 * j + 1)) (xs (3 * j + 2)) hnm4) (xc_G WW_tbl (List.mem_append_right _ (List.mem_append_left _ (List.mem_of_getElem? (i := 178) rfl))) k_145 k_146 k_15 k_147) (by decide +kernel) ⟨rfl, rfl⟩ ⟨Nat.le_of_ble_eq_true rfl, Nat.le_of_ble_eq_true rfl⟩ hK hP hD hS hA [8, 9, 10] [0, 1, 2, 3, 4, 5, 6, 7] rfl rfl rfl rfl rfl (by decide) rfl rfl rfl rfl hl.1 rfl (Nat.le_of_ble_eq_true rfl) d_law_law_125 ⟨by decide, by decide⟩ (fun rM u H locs hwM hP hD hS => ?_)
      obtain ⟨ks2, vs2, nm2⟩ := u
      dsimp only at hwM
      rw [heq] at hwM
      obtain ⟨eM, hM2, hn2⟩ := hwM
      have hP : va_P D classes (ce_L cA hX h qv qb qh qk qs qg vl2 bf2 bh2 fr2 bk2 n2 us2 fe2 key2 sm2 gr2 root2 hM qa qc ks2 vs2 nm2) H := hP
      have hD : va_D A (ce_L cA hX h qv qb qh qk qs qg vl2 bf2 bh2 fr2 bk2 n2 us2 fe2 key2 sm2 gr2 root2 hM qa qc ks2 vs2 nm2) := hD
      refine lv_icmp_eq (tgt := 367) hx hb d_law_law_128 (by decide) (fun _ => ?_) (fun q => absurd (eX.trans eM.symm) q)
      exact ht vl2 bf2 bh2 fr2 bk2 n2 us2 fe2 key2 sm2 gr2 root2 ks2 vs2 nm2 _ _ _ hI2 hM2 (by omega) hP hD hS
    · refine lv_tableIn (tgt := 133) hx hb d_law_law_32 (by decide) (by decide) rfl (by decide) ?_
      refine lv_aload_n hx hb d_law_law_133 rfl (lv_at hl 1 rfl) ?_
      refine lv_aload_n hx hb d_law_law_134 rfl (lv_at hl 0 rfl) ?_
      refine lv_iload_n hx hb d_law_law_135 rfl (lv_at hl 3 rfl) ?_
      refine lv_iconst (v := 1) hx hb d_law_law_136 (by decide) ?_
      refine lv_iadd hx hb d_law_law_137 ?_
      refine xi_top (nI (3 * j + 1)) (nI_add _ 1) ?_
      refine xs_ald hx hb hsc hbl hbA hS (3 * j + 1) (by omega) hL31 d_law_law_138 ?_
      refine lv_aload_n hx hb d_law_law_139 rfl (lv_at hl 0 rfl) ?_
      refine lv_iload_n hx hb d_law_law_140 rfl (lv_at hl 3 rfl) ?_
      refine lv_iconst (v := 2) hx hb d_law_law_141 (by decide) ?_
      refine lv_iadd hx hb d_law_law_142 ?_
      refine xi_top (nI (3 * j + 2)) (nI_add _ 2) ?_
      refine xs_ald hx hb hsc hbl hbA hS (3 * j + 2) (by omega) hL31 d_law_law_143 ?_
      refine xc_I (n := 2) (As := [.int (xs (3 * j + 1)), .int (xs (3 * j + 2))]) (rest := []) (wr := ce_M cA hM qa qc ks vs nm) (wc := ce_X cA hX h qv qb qh qk qs qg vl bf bh fr bk n us fe key sm gr root) hx hb hml hown hts (c_X_putFirst l D cA hX h qv qb qh qk qs qg _ vl bf bh fr bk n us fe key sm gr root (xs (3 * j + 1)) (xs (3 * j + 2)) j M hI hj) (xc_G WW_tbl (List.mem_append_right _ (List.mem_append_left _ (List.mem_of_getElem? (i := 93) rfl))) k_81 k_82 k_13 k_83) (by decide +kernel) ⟨rfl, rfl⟩ ⟨Nat.le_of_ble_eq_true rfl, Nat.le_of_ble_eq_true rfl⟩ hK hP hD hS hA [0, 1, 2, 3, 4, 5, 6, 7] [8, 9, 10] rfl rfl rfl rfl rfl (by decide) rfl rfl rfl rfl hl.1 rfl (Nat.le_of_ble_eq_true rfl) d_law_law_144 ⟨by decide, by decide⟩ (fun rX u H locs hwX hP hD hS => ?_)
      obtain ⟨vl2, bf2, bh2, fr2, bk2, n2, us2, fe2, key2, sm2, gr2, root2⟩ := u
      dsimp only at hwX
      obtain ⟨eX, hI2⟩ := hwX
      have hP : va_P D classes (ce_L cA hX h qv qb qh qk qs qg vl2 bf2 bh2 fr2 bk2 n2 us2 fe2 key2 sm2 gr2 root2 hM qa qc ks vs nm) H := hP.sub [3, 4, 5, 6, 7, 8, 9, 10, 0, 1, 2] rfl
      have hD : va_D A (ce_L cA hX h qv qb qh qk qs qg vl2 bf2 bh2 fr2 bk2 n2 us2 fe2 key2 sm2 gr2 root2 hM qa qc ks vs nm) := hD.sub [3, 4, 5, 6, 7, 8, 9, 10, 0, 1, 2] (by decide) rfl
      refine lv_aload_n hx hb d_law_law_147 rfl (lv_at hl 2 rfl) ?_
      refine lv_aload_n hx hb d_law_law_148 rfl (lv_at hl 0 rfl) ?_
      refine lv_iload_n hx hb d_law_law_149 rfl (lv_at hl 3 rfl) ?_
      refine lv_iconst (v := 1) hx hb d_law_law_150 (by decide) ?_
      refine lv_iadd hx hb d_law_law_151 ?_
      refine xi_top (nI (3 * j + 1)) (nI_add _ 1) ?_
      refine xs_ald hx hb hsc hbl hbA hS (3 * j + 1) (by omega) hL31 d_law_law_152 ?_
      refine lv_aload_n hx hb d_law_law_153 rfl (lv_at hl 0 rfl) ?_
      refine lv_iload_n hx hb d_law_law_154 rfl (lv_at hl 3 rfl) ?_
      refine lv_iconst (v := 2) hx hb d_law_law_155 (by decide) ?_
      refine lv_iadd hx hb d_law_law_156 ?_
      refine xi_top (nI (3 * j + 2)) (nI_add _ 2) ?_
      refine xs_ald hx hb hsc hbl hbA hS (3 * j + 2) (by omega) hL31 d_law_law_157 ?_
      refine xc_I (n := 2) (As := [.int (xs (3 * j + 1)), .int (xs (3 * j + 2))]) (rest := [.int rX]) (wr := ce_X cA hX h qv qb qh qk qs qg vl2 bf2 bh2 fr2 bk2 n2 us2 fe2 key2 sm2 gr2 root2) (wc := ce_M cA hM qa qc ks vs nm) hx hb hml hown hts (c_M_putFirst l D cA hM qa qc _ ks vs nm (xs (3 * j + 1)) (xs (3 * j + 2)) hnm4) (xc_G WW_tbl (List.mem_append_right _ (List.mem_append_left _ (List.mem_of_getElem? (i := 190) rfl))) k_154 k_155 k_15 k_156) (by decide +kernel) ⟨rfl, rfl⟩ ⟨Nat.le_of_ble_eq_true rfl, Nat.le_of_ble_eq_true rfl⟩ hK hP hD hS hA [8, 9, 10] [0, 1, 2, 3, 4, 5, 6, 7] rfl rfl rfl rfl rfl (by decide) rfl rfl rfl rfl hl.1 rfl (Nat.le_of_ble_eq_true rfl) d_law_law_158 ⟨by decide, by decide⟩ (fun rM u H locs hwM hP hD hS => ?_)
      obtain ⟨ks2, vs2, nm2⟩ := u
      dsimp only at hwM
      rw [heq] at hwM
      obtain ⟨eM, hM2, hn2⟩ := hwM
      have hP : va_P D classes (ce_L cA hX h qv qb qh qk qs qg vl2 bf2 bh2 fr2 bk2 n2 us2 fe2 key2 sm2 gr2 root2 hM qa qc ks2 vs2 nm2) H := hP
      have hD : va_D A (ce_L cA hX h qv qb qh qk qs qg vl2 bf2 bh2 fr2 bk2 n2 us2 fe2 key2 sm2 gr2 root2 hM qa qc ks2 vs2 nm2) := hD
      refine lv_icmp_eq (tgt := 367) hx hb d_law_law_161 (by decide) (fun _ => ?_) (fun q => absurd (eX.trans eM.symm) q)
      exact ht vl2 bf2 bh2 fr2 bk2 n2 us2 fe2 key2 sm2 gr2 root2 ks2 vs2 nm2 _ _ _ hI2 hM2 (by omega) hP hD hS
    · refine lv_tableIn (tgt := 166) hx hb d_law_law_32 (by decide) (by decide) rfl (by decide) ?_
      refine lv_aload_n hx hb d_law_law_166 rfl (lv_at hl 1 rfl) ?_
      refine lv_aload_n hx hb d_law_law_167 rfl (lv_at hl 0 rfl) ?_
      refine lv_iload_n hx hb d_law_law_168 rfl (lv_at hl 3 rfl) ?_
      refine lv_iconst (v := 1) hx hb d_law_law_169 (by decide) ?_
      refine lv_iadd hx hb d_law_law_170 ?_
      refine xi_top (nI (3 * j + 1)) (nI_add _ 1) ?_
      refine xs_ald hx hb hsc hbl hbA hS (3 * j + 1) (by omega) hL31 d_law_law_171 ?_
      refine lv_aload_n hx hb d_law_law_172 rfl (lv_at hl 0 rfl) ?_
      refine lv_iload_n hx hb d_law_law_173 rfl (lv_at hl 3 rfl) ?_
      refine lv_iconst (v := 2) hx hb d_law_law_174 (by decide) ?_
      refine lv_iadd hx hb d_law_law_175 ?_
      refine xi_top (nI (3 * j + 2)) (nI_add _ 2) ?_
      refine xs_ald hx hb hsc hbl hbA hS (3 * j + 2) (by omega) hL31 d_law_law_176 ?_
      refine xc_I (n := 2) (As := [.int (xs (3 * j + 1)), .int (xs (3 * j + 2))]) (rest := []) (wr := ce_M cA hM qa qc ks vs nm) (wc := ce_X cA hX h qv qb qh qk qs qg vl bf bh fr bk n us fe key sm gr root) hx hb hml hown hts (c_X_putLast l D cA hX h qv qb qh qk qs qg _ vl bf bh fr bk n us fe key sm gr root (xs (3 * j + 1)) (xs (3 * j + 2)) j M hI hj) (xc_G WW_tbl (List.mem_append_right _ (List.mem_append_left _ (List.mem_of_getElem? (i := 105) rfl))) k_90 k_91 k_13 k_92) (by decide +kernel) ⟨rfl, rfl⟩ ⟨Nat.le_of_ble_eq_true rfl, Nat.le_of_ble_eq_true rfl⟩ hK hP hD hS hA [0, 1, 2, 3, 4, 5, 6, 7] [8, 9, 10] rfl rfl rfl rfl rfl (by decide) rfl rfl rfl rfl hl.1 rfl (Nat.le_of_ble_eq_true rfl) d_law_law_177 ⟨by decide, by decide⟩ (fun rX u H locs hwX hP hD hS => ?_)
      obtain ⟨vl2, bf2, bh2, fr2, bk2, n2, us2, fe2, key2, sm2, gr2, root2⟩ := u
      dsimp only at hwX
      obtain ⟨eX, hI2⟩ := hwX
      have hP : va_P D classes (ce_L cA hX h qv qb qh qk qs qg vl2 bf2 bh2 fr2 bk2 n2 us2 fe2 key2 sm2 gr2 root2 hM qa qc ks vs nm) H := hP.sub [3, 4, 5, 6, 7, 8, 9, 10, 0, 1, 2] rfl
      have hD : va_D A (ce_L cA hX h qv qb qh qk qs qg vl2 bf2 bh2 fr2 bk2 n2 us2 fe2 key2 sm2 gr2 root2 hM qa qc ks vs nm) := hD.sub [3, 4, 5, 6, 7, 8, 9, 10, 0, 1, 2] (by decide) rfl
      refine lv_aload_n hx hb d_law_law_180 rfl (lv_at hl 2 rfl) ?_
      refine lv_aload_n hx hb d_law_law_181 rfl (lv_at hl 0 rfl) ?_
      refine lv_iload_n hx hb d_law_law_182 rfl (lv_at hl 3 rfl) ?_
      refine lv_iconst (v := 1) hx hb d_law_law_183 (by decide) ?_
      refine lv_iadd hx hb d_law_law_184 ?_
      refine xi_top (nI (3 * j + 1)) (nI_add _ 1) ?_
      refine xs_ald hx hb hsc hbl hbA hS (3 * j + 1) (by omega) hL31 d_law_law_185 ?_
      refine lv_aload_n hx hb d_law_law_186 rfl (lv_at hl 0 rfl) ?_
      refine lv_iload_n hx hb d_law_law_187 rfl (lv_at hl 3 rfl) ?_
      refine lv_iconst (v := 2) hx hb d_law_law_188 (by decide) ?_
      refine lv_iadd hx hb d_law_law_189 ?_
      refine xi_top (nI (3 * j + 2)) (nI_add _ 2) ?_
      refine xs_ald hx hb hsc hbl hbA hS (3 * j + 2) (by omega) hL31 d_law_law_190 ?_
      refine xc_I (n := 2) (As := [.int (xs (3 * j + 1)), .int (xs (3 * j + 2))]) (rest := [.int rX]) (wr := ce_X cA hX h qv qb qh qk qs qg vl2 bf2 bh2 fr2 bk2 n2 us2 fe2 key2 sm2 gr2 root2) (wc := ce_M cA hM qa qc ks vs nm) hx hb hml hown hts (c_M_putLast l D cA hM qa qc _ ks vs nm (xs (3 * j + 1)) (xs (3 * j + 2)) hnm4) (xc_G WW_tbl (List.mem_append_right _ (List.mem_append_left _ (List.mem_of_getElem? (i := 202) rfl))) k_163 k_164 k_15 k_165) (by decide +kernel) ⟨rfl, rfl⟩ ⟨Nat.le_of_ble_eq_true rfl, Nat.le_of_ble_eq_true rfl⟩ hK hP hD hS hA [8, 9, 10] [0, 1, 2, 3, 4, 5, 6, 7] rfl rfl rfl rfl rfl (by decide) rfl rfl rfl rfl hl.1 rfl (Nat.le_of_ble_eq_true rfl) d_law_law_191 ⟨by decide, by decide⟩ (fun rM u H locs hwM hP hD hS => ?_)
      obtain ⟨ks2, vs2, nm2⟩ := u
      dsimp only at hwM
      rw [heq] at hwM
      obtain ⟨eM, hM2, hn2⟩ := hwM
      have hP : va_P D classes (ce_L cA hX h qv qb qh qk qs qg vl2 bf2 bh2 fr2 bk2 n2 us2 fe2 key2 sm2 gr2 root2 hM qa qc ks2 vs2 nm2) H := hP
      have hD : va_D A (ce_L cA hX h qv qb qh qk qs qg vl2 bf2 bh2 fr2 bk2 n2 us2 fe2 key2 sm2 gr2 root2 hM qa qc ks2 vs2 nm2) := hD
      refine lv_icmp_eq (tgt := 367) hx hb d_law_law_194 (by decide) (fun _ => ?_) (fun q => absurd (eX.trans eM.symm) q)
      exact ht vl2 bf2 bh2 fr2 bk2 n2 us2 fe2 key2 sm2 gr2 root2 ks2 vs2 nm2 _ _ _ hI2 hM2 (by omega) hP hD hS
    · refine lv_tableIn (tgt := 199) hx hb d_law_law_32 (by decide) (by decide) rfl (by decide) ?_
      refine lv_aload_n hx hb d_law_law_199 rfl (lv_at hl 1 rfl) ?_
      refine lv_aload_n hx hb d_law_law_200 rfl (lv_at hl 0 rfl) ?_
      refine lv_iload_n hx hb d_law_law_201 rfl (lv_at hl 3 rfl) ?_
      refine lv_iconst (v := 1) hx hb d_law_law_202 (by decide) ?_
      refine lv_iadd hx hb d_law_law_203 ?_
      refine xi_top (nI (3 * j + 1)) (nI_add _ 1) ?_
      refine xs_ald hx hb hsc hbl hbA hS (3 * j + 1) (by omega) hL31 d_law_law_204 ?_
      refine xc_I (n := 1) (As := [.int (xs (3 * j + 1))]) (rest := []) (wr := ce_M cA hM qa qc ks vs nm) (wc := ce_X cA hX h qv qb qh qk qs qg vl bf bh fr bk n us fe key sm gr root) hx hb hml hown hts (c_X_touchFirst l D cA hX h qv qb qh qk qs qg _ vl bf bh fr bk n us fe key sm gr root (xs (3 * j + 1)) j M hI hj) (xc_G WW_tbl (List.mem_append_right _ (List.mem_append_left _ (List.mem_of_getElem? (i := 109) rfl))) k_93 k_94 k_13 k_95) (by decide +kernel) ⟨rfl, rfl⟩ ⟨Nat.le_of_ble_eq_true rfl, Nat.le_of_ble_eq_true rfl⟩ hK hP hD hS hA [0, 1, 2, 3, 4, 5, 6, 7] [8, 9, 10] rfl rfl rfl rfl rfl (by decide) rfl rfl rfl rfl hl.1 rfl (Nat.le_of_ble_eq_true rfl) d_law_law_205 ⟨by decide, by decide⟩ (fun rX u H locs hwX hP hD hS => ?_)
      obtain ⟨vl2, bf2, bh2, fr2, bk2, n2, us2, fe2, key2, sm2, gr2, root2⟩ := u
      dsimp only at hwX
      obtain ⟨eX, hI2⟩ := hwX
      have hP : va_P D classes (ce_L cA hX h qv qb qh qk qs qg vl2 bf2 bh2 fr2 bk2 n2 us2 fe2 key2 sm2 gr2 root2 hM qa qc ks vs nm) H := hP.sub [3, 4, 5, 6, 7, 8, 9, 10, 0, 1, 2] rfl
      have hD : va_D A (ce_L cA hX h qv qb qh qk qs qg vl2 bf2 bh2 fr2 bk2 n2 us2 fe2 key2 sm2 gr2 root2 hM qa qc ks vs nm) := hD.sub [3, 4, 5, 6, 7, 8, 9, 10, 0, 1, 2] (by decide) rfl
      refine lv_aload_n hx hb d_law_law_208 rfl (lv_at hl 2 rfl) ?_
      refine lv_aload_n hx hb d_law_law_209 rfl (lv_at hl 0 rfl) ?_
      refine lv_iload_n hx hb d_law_law_210 rfl (lv_at hl 3 rfl) ?_
      refine lv_iconst (v := 1) hx hb d_law_law_211 (by decide) ?_
      refine lv_iadd hx hb d_law_law_212 ?_
      refine xi_top (nI (3 * j + 1)) (nI_add _ 1) ?_
      refine xs_ald hx hb hsc hbl hbA hS (3 * j + 1) (by omega) hL31 d_law_law_213 ?_
      refine xc_I (n := 1) (As := [.int (xs (3 * j + 1))]) (rest := [.int rX]) (wr := ce_X cA hX h qv qb qh qk qs qg vl2 bf2 bh2 fr2 bk2 n2 us2 fe2 key2 sm2 gr2 root2) (wc := ce_M cA hM qa qc ks vs nm) hx hb hml hown hts (c_M_touchFirst l D cA hM qa qc _ ks vs nm (xs (3 * j + 1)) hnm4) (xc_G WW_tbl (List.mem_append_right _ (List.mem_append_left _ (List.mem_of_getElem? (i := 206) rfl))) k_166 k_167 k_15 k_168) (by decide +kernel) ⟨rfl, rfl⟩ ⟨Nat.le_of_ble_eq_true rfl, Nat.le_of_ble_eq_true rfl⟩ hK hP hD hS hA [8, 9, 10] [0, 1, 2, 3, 4, 5, 6, 7] rfl rfl rfl rfl rfl (by decide) rfl rfl rfl rfl hl.1 rfl (Nat.le_of_ble_eq_true rfl) d_law_law_214 ⟨by decide, by decide⟩ (fun rM u H locs hwM hP hD hS => ?_)
      obtain ⟨ks2, vs2, nm2⟩ := u
      dsimp only at hwM
      rw [heq] at hwM
      obtain ⟨eM, hM2, hn2⟩ := hwM
      have hP : va_P D classes (ce_L cA hX h qv qb qh qk qs qg vl2 bf2 bh2 fr2 bk2 n2 us2 fe2 key2 sm2 gr2 root2 hM qa qc ks2 vs2 nm2) H := hP
      have hD : va_D A (ce_L cA hX h qv qb qh qk qs qg vl2 bf2 bh2 fr2 bk2 n2 us2 fe2 key2 sm2 gr2 root2 hM qa qc ks2 vs2 nm2) := hD
      refine lv_icmp_eq (tgt := 367) hx hb d_law_law_217 (by decide) (fun _ => ?_) (fun q => absurd (eX.trans eM.symm) q)
      exact ht vl2 bf2 bh2 fr2 bk2 n2 us2 fe2 key2 sm2 gr2 root2 ks2 vs2 nm2 _ _ _ hI2 hM2 (by omega) hP hD hS
    · refine lv_tableIn (tgt := 222) hx hb d_law_law_32 (by decide) (by decide) rfl (by decide) ?_
      refine lv_aload_n hx hb d_law_law_222 rfl (lv_at hl 1 rfl) ?_
      refine lv_aload_n hx hb d_law_law_223 rfl (lv_at hl 0 rfl) ?_
      refine lv_iload_n hx hb d_law_law_224 rfl (lv_at hl 3 rfl) ?_
      refine lv_iconst (v := 1) hx hb d_law_law_225 (by decide) ?_
      refine lv_iadd hx hb d_law_law_226 ?_
      refine xi_top (nI (3 * j + 1)) (nI_add _ 1) ?_
      refine xs_ald hx hb hsc hbl hbA hS (3 * j + 1) (by omega) hL31 d_law_law_227 ?_
      refine xc_I (n := 1) (As := [.int (xs (3 * j + 1))]) (rest := []) (wr := ce_M cA hM qa qc ks vs nm) (wc := ce_X cA hX h qv qb qh qk qs qg vl bf bh fr bk n us fe key sm gr root) hx hb hml hown hts (c_X_touchLast l D cA hX h qv qb qh qk qs qg _ vl bf bh fr bk n us fe key sm gr root (xs (3 * j + 1)) j M hI hj) (xc_G WW_tbl (List.mem_append_right _ (List.mem_append_left _ (List.mem_of_getElem? (i := 117) rfl))) k_99 k_100 k_13 k_101) (by decide +kernel) ⟨rfl, rfl⟩ ⟨Nat.le_of_ble_eq_true rfl, Nat.le_of_ble_eq_true rfl⟩ hK hP hD hS hA [0, 1, 2, 3, 4, 5, 6, 7] [8, 9, 10] rfl rfl rfl rfl rfl (by decide) rfl rfl rfl rfl hl.1 rfl (Nat.le_of_ble_eq_true rfl) d_law_law_228 ⟨by decide, by decide⟩ (fun rX u H locs hwX hP hD hS => ?_)
      obtain ⟨vl2, bf2, bh2, fr2, bk2, n2, us2, fe2, key2, sm2, gr2, root2⟩ := u
      dsimp only at hwX
      obtain ⟨eX, hI2⟩ := hwX
      have hP : va_P D classes (ce_L cA hX h qv qb qh qk qs qg vl2 bf2 bh2 fr2 bk2 n2 us2 fe2 key2 sm2 gr2 root2 hM qa qc ks vs nm) H := hP.sub [3, 4, 5, 6, 7, 8, 9, 10, 0, 1, 2] rfl
      have hD : va_D A (ce_L cA hX h qv qb qh qk qs qg vl2 bf2 bh2 fr2 bk2 n2 us2 fe2 key2 sm2 gr2 root2 hM qa qc ks vs nm) := hD.sub [3, 4, 5, 6, 7, 8, 9, 10, 0, 1, 2] (by decide) rfl
      refine lv_aload_n hx hb d_law_law_231 rfl (lv_at hl 2 rfl) ?_
      refine lv_aload_n hx hb d_law_law_232 rfl (lv_at hl 0 rfl) ?_
      refine lv_iload_n hx hb d_law_law_233 rfl (lv_at hl 3 rfl) ?_
      refine lv_iconst (v := 1) hx hb d_law_law_234 (by decide) ?_
      refine lv_iadd hx hb d_law_law_235 ?_
      refine xi_top (nI (3 * j + 1)) (nI_add _ 1) ?_
      refine xs_ald hx hb hsc hbl hbA hS (3 * j + 1) (by omega) hL31 d_law_law_236 ?_
      refine xc_I (n := 1) (As := [.int (xs (3 * j + 1))]) (rest := [.int rX]) (wr := ce_X cA hX h qv qb qh qk qs qg vl2 bf2 bh2 fr2 bk2 n2 us2 fe2 key2 sm2 gr2 root2) (wc := ce_M cA hM qa qc ks vs nm) hx hb hml hown hts (c_M_touchLast l D cA hM qa qc _ ks vs nm (xs (3 * j + 1)) hnm4) (xc_G WW_tbl (List.mem_append_right _ (List.mem_append_left _ (List.mem_of_getElem? (i := 214) rfl))) k_172 k_173 k_15 k_174) (by decide +kernel) ⟨rfl, rfl⟩ ⟨Nat.le_of_ble_eq_true rfl, Nat.le_of_ble_eq_true rfl⟩ hK hP hD hS hA [8, 9, 10] [0, 1, 2, 3, 4, 5, 6, 7] rfl rfl rfl rfl rfl (by decide) rfl rfl rfl rfl hl.1 rfl (Nat.le_of_ble_eq_true rfl) d_law_law_237 ⟨by decide, by decide⟩ (fun rM u H locs hwM hP hD hS => ?_)
      obtain ⟨ks2, vs2, nm2⟩ := u
      dsimp only at hwM
      rw [heq] at hwM
      obtain ⟨eM, hM2, hn2⟩ := hwM
      have hP : va_P D classes (ce_L cA hX h qv qb qh qk qs qg vl2 bf2 bh2 fr2 bk2 n2 us2 fe2 key2 sm2 gr2 root2 hM qa qc ks2 vs2 nm2) H := hP
      have hD : va_D A (ce_L cA hX h qv qb qh qk qs qg vl2 bf2 bh2 fr2 bk2 n2 us2 fe2 key2 sm2 gr2 root2 hM qa qc ks2 vs2 nm2) := hD
      refine lv_icmp_eq (tgt := 367) hx hb d_law_law_240 (by decide) (fun _ => ?_) (fun q => absurd (eX.trans eM.symm) q)
      exact ht vl2 bf2 bh2 fr2 bk2 n2 us2 fe2 key2 sm2 gr2 root2 ks2 vs2 nm2 _ _ _ hI2 hM2 (by omega) hP hD hS
    · refine lv_tableIn (tgt := 245) hx hb d_law_law_32 (by decide) (by decide) rfl (by decide) ?_
      refine lv_aload_n hx hb d_law_law_245 rfl (lv_at hl 1 rfl) ?_
      refine lv_aload_n hx hb d_law_law_246 rfl (lv_at hl 0 rfl) ?_
      refine lv_iload_n hx hb d_law_law_247 rfl (lv_at hl 3 rfl) ?_
      refine lv_iconst (v := 1) hx hb d_law_law_248 (by decide) ?_
      refine lv_iadd hx hb d_law_law_249 ?_
      refine xi_top (nI (3 * j + 1)) (nI_add _ 1) ?_
      refine xs_ald hx hb hsc hbl hbA hS (3 * j + 1) (by omega) hL31 d_law_law_250 ?_
      refine xc_I (n := 1) (As := [.int (xs (3 * j + 1))]) (rest := []) (wr := ce_M cA hM qa qc ks vs nm) (wc := ce_X cA hX h qv qb qh qk qs qg vl bf bh fr bk n us fe key sm gr root) hx hb hml hown hts (c_X_get l D cA hX h qv qb qh qk qs qg _ vl bf bh fr bk n us fe key sm gr root (xs (3 * j + 1)) j M hI hj) (xc_G WW_tbl (List.mem_append_right _ (List.mem_append_left _ (List.mem_of_getElem? (i := 121) rfl))) k_102 k_103 k_13 k_104) (by decide +kernel) ⟨rfl, rfl⟩ ⟨Nat.le_of_ble_eq_true rfl, Nat.le_of_ble_eq_true rfl⟩ hK hP hD hS hA [0, 1, 2, 3, 4, 5, 6, 7] [8, 9, 10] rfl rfl rfl rfl rfl (by decide) rfl rfl rfl rfl hl.1 rfl (Nat.le_of_ble_eq_true rfl) d_law_law_251 ⟨by decide, by decide⟩ (fun rX u H locs hwX hP hD hS => ?_)
      obtain ⟨vl2, bf2, bh2, fr2, bk2, n2, us2, fe2, key2, sm2, gr2, root2⟩ := u
      dsimp only at hwX
      obtain ⟨eX, hI2⟩ := hwX
      have hP : va_P D classes (ce_L cA hX h qv qb qh qk qs qg vl2 bf2 bh2 fr2 bk2 n2 us2 fe2 key2 sm2 gr2 root2 hM qa qc ks vs nm) H := hP.sub [3, 4, 5, 6, 7, 8, 9, 10, 0, 1, 2] rfl
      have hD : va_D A (ce_L cA hX h qv qb qh qk qs qg vl2 bf2 bh2 fr2 bk2 n2 us2 fe2 key2 sm2 gr2 root2 hM qa qc ks vs nm) := hD.sub [3, 4, 5, 6, 7, 8, 9, 10, 0, 1, 2] (by decide) rfl
      refine lv_aload_n hx hb d_law_law_254 rfl (lv_at hl 2 rfl) ?_
      refine lv_aload_n hx hb d_law_law_255 rfl (lv_at hl 0 rfl) ?_
      refine lv_iload_n hx hb d_law_law_256 rfl (lv_at hl 3 rfl) ?_
      refine lv_iconst (v := 1) hx hb d_law_law_257 (by decide) ?_
      refine lv_iadd hx hb d_law_law_258 ?_
      refine xi_top (nI (3 * j + 1)) (nI_add _ 1) ?_
      refine xs_ald hx hb hsc hbl hbA hS (3 * j + 1) (by omega) hL31 d_law_law_259 ?_
      refine xc_I (n := 1) (As := [.int (xs (3 * j + 1))]) (rest := [.int rX]) (wr := ce_X cA hX h qv qb qh qk qs qg vl2 bf2 bh2 fr2 bk2 n2 us2 fe2 key2 sm2 gr2 root2) (wc := ce_M cA hM qa qc ks vs nm) hx hb hml hown hts (c_M_get l D cA hM qa qc _ ks vs nm (xs (3 * j + 1)) hnm4) (xc_G WW_tbl (List.mem_append_right _ (List.mem_append_left _ (List.mem_of_getElem? (i := 218) rfl))) k_175 k_176 k_15 k_177) (by decide +kernel) ⟨rfl, rfl⟩ ⟨Nat.le_of_ble_eq_true rfl, Nat.le_of_ble_eq_true rfl⟩ hK hP hD hS hA [8, 9, 10] [0, 1, 2, 3, 4, 5, 6, 7] rfl rfl rfl rfl rfl (by decide) rfl rfl rfl rfl hl.1 rfl (Nat.le_of_ble_eq_true rfl) d_law_law_260 ⟨by decide, by decide⟩ (fun rM u H locs hwM hP hD hS => ?_)
      obtain ⟨ks2, vs2, nm2⟩ := u
      dsimp only at hwM
      rw [heq] at hwM
      obtain ⟨eM, hM2, hn2⟩ := hwM
      have hP : va_P D classes (ce_L cA hX h qv qb qh qk qs qg vl2 bf2 bh2 fr2 bk2 n2 us2 fe2 key2 sm2 gr2 root2 hM qa qc ks2 vs2 nm2) H := hP
      have hD : va_D A (ce_L cA hX h qv qb qh qk qs qg vl2 bf2 bh2 fr2 bk2 n2 us2 fe2 key2 sm2 gr2 root2 hM qa qc ks2 vs2 nm2) := hD
      refine lv_icmp_eq (tgt := 367) hx hb d_law_law_263 (by decide) (fun _ => ?_) (fun q => absurd (eX.trans eM.symm) q)
      exact ht vl2 bf2 bh2 fr2 bk2 n2 us2 fe2 key2 sm2 gr2 root2 ks2 vs2 nm2 _ _ _ hI2 hM2 (by omega) hP hD hS
    · refine lv_tableIn (tgt := 268) hx hb d_law_law_32 (by decide) (by decide) rfl (by decide) ?_
      refine lv_aload_n hx hb d_law_law_268 rfl (lv_at hl 1 rfl) ?_
      refine lv_aload_n hx hb d_law_law_269 rfl (lv_at hl 0 rfl) ?_
      refine lv_iload_n hx hb d_law_law_270 rfl (lv_at hl 3 rfl) ?_
      refine lv_iconst (v := 1) hx hb d_law_law_271 (by decide) ?_
      refine lv_iadd hx hb d_law_law_272 ?_
      refine xi_top (nI (3 * j + 1)) (nI_add _ 1) ?_
      refine xs_ald hx hb hsc hbl hbA hS (3 * j + 1) (by omega) hL31 d_law_law_273 ?_
      refine xc_I (n := 1) (As := [.int (xs (3 * j + 1))]) (rest := []) (wr := ce_M cA hM qa qc ks vs nm) (wc := ce_X cA hX h qv qb qh qk qs qg vl bf bh fr bk n us fe key sm gr root) hx hb hml hown hts (c_X_remove l D cA hX h qv qb qh qk qs qg _ vl bf bh fr bk n us fe key sm gr root (xs (3 * j + 1)) j M hI hj) (xc_G WW_tbl (List.mem_append_right _ (List.mem_append_left _ (List.mem_of_getElem? (i := 125) rfl))) k_105 k_106 k_13 k_107) (by decide +kernel) ⟨rfl, rfl⟩ ⟨Nat.le_of_ble_eq_true rfl, Nat.le_of_ble_eq_true rfl⟩ hK hP hD hS hA [0, 1, 2, 3, 4, 5, 6, 7] [8, 9, 10] rfl rfl rfl rfl rfl (by decide) rfl rfl rfl rfl hl.1 rfl (Nat.le_of_ble_eq_true rfl) d_law_law_274 ⟨by decide, by decide⟩ (fun rX u H locs hwX hP hD hS => ?_)
      obtain ⟨vl2, bf2, bh2, fr2, bk2, n2, us2, fe2, key2, sm2, gr2, root2⟩ := u
      dsimp only at hwX
      obtain ⟨eX, hI2⟩ := hwX
      have hP : va_P D classes (ce_L cA hX h qv qb qh qk qs qg vl2 bf2 bh2 fr2 bk2 n2 us2 fe2 key2 sm2 gr2 root2 hM qa qc ks vs nm) H := hP.sub [3, 4, 5, 6, 7, 8, 9, 10, 0, 1, 2] rfl
      have hD : va_D A (ce_L cA hX h qv qb qh qk qs qg vl2 bf2 bh2 fr2 bk2 n2 us2 fe2 key2 sm2 gr2 root2 hM qa qc ks vs nm) := hD.sub [3, 4, 5, 6, 7, 8, 9, 10, 0, 1, 2] (by decide) rfl
      refine lv_aload_n hx hb d_law_law_277 rfl (lv_at hl 2 rfl) ?_
      refine lv_aload_n hx hb d_law_law_278 rfl (lv_at hl 0 rfl) ?_
      refine lv_iload_n hx hb d_law_law_279 rfl (lv_at hl 3 rfl) ?_
      refine lv_iconst (v := 1) hx hb d_law_law_280 (by decide) ?_
      refine lv_iadd hx hb d_law_law_281 ?_
      refine xi_top (nI (3 * j + 1)) (nI_add _ 1) ?_
      refine xs_ald hx hb hsc hbl hbA hS (3 * j + 1) (by omega) hL31 d_law_law_282 ?_
      refine xc_I (n := 1) (As := [.int (xs (3 * j + 1))]) (rest := [.int rX]) (wr := ce_X cA hX h qv qb qh qk qs qg vl2 bf2 bh2 fr2 bk2 n2 us2 fe2 key2 sm2 gr2 root2) (wc := ce_M cA hM qa qc ks vs nm) hx hb hml hown hts (c_M_remove l D cA hM qa qc _ ks vs nm (xs (3 * j + 1)) hnm4) (xc_G WW_tbl (List.mem_append_right _ (List.mem_append_left _ (List.mem_of_getElem? (i := 222) rfl))) k_178 k_179 k_15 k_180) (by decide +kernel) ⟨rfl, rfl⟩ ⟨Nat.le_of_ble_eq_true rfl, Nat.le_of_ble_eq_true rfl⟩ hK hP hD hS hA [8, 9, 10] [0, 1, 2, 3, 4, 5, 6, 7] rfl rfl rfl rfl rfl (by decide) rfl rfl rfl rfl hl.1 rfl (Nat.le_of_ble_eq_true rfl) d_law_law_283 ⟨by decide, by decide⟩ (fun rM u H locs hwM hP hD hS => ?_)
      obtain ⟨ks2, vs2, nm2⟩ := u
      dsimp only at hwM
      rw [heq] at hwM
      obtain ⟨eM, hM2, hn2⟩ := hwM
      have hP : va_P D classes (ce_L cA hX h qv qb qh qk qs qg vl2 bf2 bh2 fr2 bk2 n2 us2 fe2 key2 sm2 gr2 root2 hM qa qc ks2 vs2 nm2) H := hP
      have hD : va_D A (ce_L cA hX h qv qb qh qk qs qg vl2 bf2 bh2 fr2 bk2 n2 us2 fe2 key2 sm2 gr2 root2 hM qa qc ks2 vs2 nm2) := hD
      refine lv_icmp_eq (tgt := 367) hx hb d_law_law_286 (by decide) (fun _ => ?_) (fun q => absurd (eX.trans eM.symm) q)
      exact ht vl2 bf2 bh2 fr2 bk2 n2 us2 fe2 key2 sm2 gr2 root2 ks2 vs2 nm2 _ _ _ hI2 hM2 (by omega) hP hD hS
    · refine lv_tableIn (tgt := 291) hx hb d_law_law_32 (by decide) (by decide) rfl (by decide) ?_
      refine lv_aload_n hx hb d_law_law_291 rfl (lv_at hl 1 rfl) ?_
      refine xc_I (n := 0) (As := []) (rest := []) (wr := ce_M cA hM qa qc ks vs nm) (wc := ce_X cA hX h qv qb qh qk qs qg vl bf bh fr bk n us fe key sm gr root) hx hb hml hown hts (c_X_dropFirst l D cA hX h qv qb qh qk qs qg _ vl bf bh fr bk n us fe key sm gr root  j M hI hj) (xc_G WW_tbl (List.mem_append_right _ (List.mem_append_left _ (List.mem_of_getElem? (i := 133) rfl))) k_112 k_113 k_13 k_114) (by decide +kernel) ⟨rfl, rfl⟩ ⟨Nat.le_of_ble_eq_true rfl, Nat.le_of_ble_eq_true rfl⟩ hK hP hD hS hA [0, 1, 2, 3, 4, 5, 6, 7] [8, 9, 10] rfl rfl rfl rfl rfl (by decide) rfl rfl rfl rfl hl.1 rfl (Nat.le_of_ble_eq_true rfl) d_law_law_292 ⟨by decide, by decide⟩ (fun rX u H locs hwX hP hD hS => ?_)
      obtain ⟨vl2, bf2, bh2, fr2, bk2, n2, us2, fe2, key2, sm2, gr2, root2⟩ := u
      dsimp only at hwX
      obtain ⟨eX, hI2⟩ := hwX
      have hP : va_P D classes (ce_L cA hX h qv qb qh qk qs qg vl2 bf2 bh2 fr2 bk2 n2 us2 fe2 key2 sm2 gr2 root2 hM qa qc ks vs nm) H := hP.sub [3, 4, 5, 6, 7, 8, 9, 10, 0, 1, 2] rfl
      have hD : va_D A (ce_L cA hX h qv qb qh qk qs qg vl2 bf2 bh2 fr2 bk2 n2 us2 fe2 key2 sm2 gr2 root2 hM qa qc ks vs nm) := hD.sub [3, 4, 5, 6, 7, 8, 9, 10, 0, 1, 2] (by decide) rfl
      refine lv_aload_n hx hb d_law_law_295 rfl (lv_at hl 2 rfl) ?_
      refine xc_I (n := 0) (As := []) (rest := [.int rX]) (wr := ce_X cA hX h qv qb qh qk qs qg vl2 bf2 bh2 fr2 bk2 n2 us2 fe2 key2 sm2 gr2 root2) (wc := ce_M cA hM qa qc ks vs nm) hx hb hml hown hts (c_M_dropFirst l D cA hM qa qc _ ks vs nm  hnm4) (xc_G WW_tbl (List.mem_append_right _ (List.mem_append_left _ (List.mem_of_getElem? (i := 226) rfl))) k_181 k_182 k_15 k_183) (by decide +kernel) ⟨rfl, rfl⟩ ⟨Nat.le_of_ble_eq_true rfl, Nat.le_of_ble_eq_true rfl⟩ hK hP hD hS hA [8, 9, 10] [0, 1, 2, 3, 4, 5, 6, 7] rfl rfl rfl rfl rfl (by decide) rfl rfl rfl rfl hl.1 rfl (Nat.le_of_ble_eq_true rfl) d_law_law_296 ⟨by decide, by decide⟩ (fun rM u H locs hwM hP hD hS => ?_)
      obtain ⟨ks2, vs2, nm2⟩ := u
      dsimp only at hwM
      rw [heq] at hwM
      obtain ⟨eM, hM2, hn2⟩ := hwM
      have hP : va_P D classes (ce_L cA hX h qv qb qh qk qs qg vl2 bf2 bh2 fr2 bk2 n2 us2 fe2 key2 sm2 gr2 root2 hM qa qc ks2 vs2 nm2) H := hP
      have hD : va_D A (ce_L cA hX h qv qb qh qk qs qg vl2 bf2 bh2 fr2 bk2 n2 us2 fe2 key2 sm2 gr2 root2 hM qa qc ks2 vs2 nm2) := hD
      refine lv_icmp_eq (tgt := 367) hx hb d_law_law_299 (by decide) (fun _ => ?_) (fun q => absurd (eX.trans eM.symm) q)
      exact ht vl2 bf2 bh2 fr2 bk2 n2 us2 fe2 key2 sm2 gr2 root2 ks2 vs2 nm2 _ _ _ hI2 hM2 (by omega) hP hD hS
    · refine lv_tableIn (tgt := 304) hx hb d_law_law_32 (by decide) (by decide) rfl (by decide) ?_
      refine lv_aload_n hx hb d_law_law_304 rfl (lv_at hl 1 rfl) ?_
      refine xc_I (n := 0) (As := []) (rest := []) (wr := ce_M cA hM qa qc ks vs nm) (wc := ce_X cA hX h qv qb qh qk qs qg vl bf bh fr bk n us fe key sm gr root) hx hb hml hown hts (c_X_dropLast l D cA hX h qv qb qh qk qs qg _ vl bf bh fr bk n us fe key sm gr root  j M hI hj) (xc_G WW_tbl (List.mem_append_right _ (List.mem_append_left _ (List.mem_of_getElem? (i := 138) rfl))) k_116 k_117 k_13 k_118) (by decide +kernel) ⟨rfl, rfl⟩ ⟨Nat.le_of_ble_eq_true rfl, Nat.le_of_ble_eq_true rfl⟩ hK hP hD hS hA [0, 1, 2, 3, 4, 5, 6, 7] [8, 9, 10] rfl rfl rfl rfl rfl (by decide) rfl rfl rfl rfl hl.1 rfl (Nat.le_of_ble_eq_true rfl) d_law_law_305 ⟨by decide, by decide⟩ (fun rX u H locs hwX hP hD hS => ?_)
      obtain ⟨vl2, bf2, bh2, fr2, bk2, n2, us2, fe2, key2, sm2, gr2, root2⟩ := u
      dsimp only at hwX
      obtain ⟨eX, hI2⟩ := hwX
      have hP : va_P D classes (ce_L cA hX h qv qb qh qk qs qg vl2 bf2 bh2 fr2 bk2 n2 us2 fe2 key2 sm2 gr2 root2 hM qa qc ks vs nm) H := hP.sub [3, 4, 5, 6, 7, 8, 9, 10, 0, 1, 2] rfl
      have hD : va_D A (ce_L cA hX h qv qb qh qk qs qg vl2 bf2 bh2 fr2 bk2 n2 us2 fe2 key2 sm2 gr2 root2 hM qa qc ks vs nm) := hD.sub [3, 4, 5, 6, 7, 8, 9, 10, 0, 1, 2] (by decide) rfl
      refine lv_aload_n hx hb d_law_law_308 rfl (lv_at hl 2 rfl) ?_
      refine xc_I (n := 0) (As := []) (rest := [.int rX]) (wr := ce_X cA hX h qv qb qh qk qs qg vl2 bf2 bh2 fr2 bk2 n2 us2 fe2 key2 sm2 gr2 root2) (wc := ce_M cA hM qa qc ks vs nm) hx hb hml hown hts (c_M_dropLast l D cA hM qa qc _ ks vs nm  hnm4) (xc_G WW_tbl (List.mem_append_right _ (List.mem_append_left _ (List.mem_of_getElem? (i := 230) rfl))) k_184 k_185 k_15 k_186) (by decide +kernel) ⟨rfl, rfl⟩ ⟨Nat.le_of_ble_eq_true rfl, Nat.le_of_ble_eq_true rfl⟩ hK hP hD hS hA [8, 9, 10] [0, 1, 2, 3, 4, 5, 6, 7] rfl rfl rfl rfl rfl (by decide) rfl rfl rfl rfl hl.1 rfl (Nat.le_of_ble_eq_true rfl) d_law_law_309 ⟨by decide, by decide⟩ (fun rM u H locs hwM hP hD hS => ?_)
      obtain ⟨ks2, vs2, nm2⟩ := u
      dsimp only at hwM
      rw [heq] at hwM
      obtain ⟨eM, hM2, hn2⟩ := hwM
      have hP : va_P D classes (ce_L cA hX h qv qb qh qk qs qg vl2 bf2 bh2 fr2 bk2 n2 us2 fe2 key2 sm2 gr2 root2 hM qa qc ks2 vs2 nm2) H := hP
      have hD : va_D A (ce_L cA hX h qv qb qh qk qs qg vl2 bf2 bh2 fr2 bk2 n2 us2 fe2 key2 sm2 gr2 root2 hM qa qc ks2 vs2 nm2) := hD
      refine lv_icmp_eq (tgt := 367) hx hb d_law_law_312 (by decide) (fun _ => ?_) (fun q => absurd (eX.trans eM.symm) q)
      exact ht vl2 bf2 bh2 fr2 bk2 n2 us2 fe2 key2 sm2 gr2 root2 ks2 vs2 nm2 _ _ _ hI2 hM2 (by omega) hP hD hS
    · refine lv_tableIn (tgt := 317) hx hb d_law_law_32 (by decide) (by decide) rfl (by decide) ?_
      refine lv_aload_n hx hb d_law_law_317 rfl (lv_at hl 1 rfl) ?_
      refine xc_I (n := 0) (As := []) (rest := []) (wr := ce_M cA hM qa qc ks vs nm) (wc := ce_X cA hX h qv qb qh qk qs qg vl bf bh fr bk n us fe key sm gr root) hx hb hml hown hts (c_X_first l D cA hX h qv qb qh qk qs qg _ vl bf bh fr bk n us fe key sm gr root  j M hI hj) (xc_G WW_tbl (List.mem_append_right _ (List.mem_append_left _ (List.mem_of_getElem? (i := 142) rfl))) k_119 k_120 k_13 k_121) (by decide +kernel) ⟨rfl, rfl⟩ ⟨Nat.le_of_ble_eq_true rfl, Nat.le_of_ble_eq_true rfl⟩ hK hP hD hS hA [0, 1, 2, 3, 4, 5, 6, 7] [8, 9, 10] rfl rfl rfl rfl rfl (by decide) rfl rfl rfl rfl hl.1 rfl (Nat.le_of_ble_eq_true rfl) d_law_law_318 ⟨by decide, by decide⟩ (fun rX u H locs hwX hP hD hS => ?_)
      obtain ⟨vl2, bf2, bh2, fr2, bk2, n2, us2, fe2, key2, sm2, gr2, root2⟩ := u
      dsimp only at hwX
      obtain ⟨eX, hI2⟩ := hwX
      have hP : va_P D classes (ce_L cA hX h qv qb qh qk qs qg vl2 bf2 bh2 fr2 bk2 n2 us2 fe2 key2 sm2 gr2 root2 hM qa qc ks vs nm) H := hP.sub [3, 4, 5, 6, 7, 8, 9, 10, 0, 1, 2] rfl
      have hD : va_D A (ce_L cA hX h qv qb qh qk qs qg vl2 bf2 bh2 fr2 bk2 n2 us2 fe2 key2 sm2 gr2 root2 hM qa qc ks vs nm) := hD.sub [3, 4, 5, 6, 7, 8, 9, 10, 0, 1, 2] (by decide) rfl
      refine lv_aload_n hx hb d_law_law_321 rfl (lv_at hl 2 rfl) ?_
      refine xc_I (n := 0) (As := []) (rest := [.int rX]) (wr := ce_X cA hX h qv qb qh qk qs qg vl2 bf2 bh2 fr2 bk2 n2 us2 fe2 key2 sm2 gr2 root2) (wc := ce_M cA hM qa qc ks vs nm) hx hb hml hown hts (c_M_first l D cA hM qa qc _ ks vs nm  hnm4) (xc_G WW_tbl (List.mem_append_right _ (List.mem_append_left _ (List.mem_of_getElem? (i := 234) rfl))) k_187 k_188 k_15 k_189) (by decide +kernel) ⟨rfl, rfl⟩ ⟨Nat.le_of_ble_eq_true rfl, Nat.le_of_ble_eq_true rfl⟩ hK hP hD hS hA [8, 9, 10] [0, 1, 2, 3, 4, 5, 6, 7] rfl rfl rfl rfl rfl (by decide) rfl rfl rfl rfl hl.1 rfl (Nat.le_of_ble_eq_true rfl) d_law_law_322 ⟨by decide, by decide⟩ (fun rM u H locs hwM hP hD hS => ?_)
      obtain ⟨ks2, vs2, nm2⟩ := u
      dsimp only at hwM
      rw [heq] at hwM
      obtain ⟨eM, hM2, hn2⟩ := hwM
      have hP : va_P D classes (ce_L cA hX h qv qb qh qk qs qg vl2 bf2 bh2 fr2 bk2 n2 us2 fe2 key2 sm2 gr2 root2 hM qa qc ks2 vs2 nm2) H := hP
      have hD : va_D A (ce_L cA hX h qv qb qh qk qs qg vl2 bf2 bh2 fr2 bk2 n2 us2 fe2 key2 sm2 gr2 root2 hM qa qc ks2 vs2 nm2) := hD
      refine lv_icmp_eq (tgt := 367) hx hb d_law_law_325 (by decide) (fun _ => ?_) (fun q => absurd (eX.trans eM.symm) q)
      exact ht vl2 bf2 bh2 fr2 bk2 n2 us2 fe2 key2 sm2 gr2 root2 ks2 vs2 nm2 _ _ _ hI2 hM2 (by omega) hP hD hS
    · refine lv_tableIn (tgt := 330) hx hb d_law_law_32 (by decide) (by decide) rfl (by decide) ?_
      refine lv_aload_n hx hb d_law_law_330 rfl (lv_at hl 1 rfl) ?_
      refine xc_I (n := 0) (As := []) (rest := []) (wr := ce_M cA hM qa qc ks vs nm) (wc := ce_X cA hX h qv qb qh qk qs qg vl bf bh fr bk n us fe key sm gr root) hx hb hml hown hts (c_X_last l D cA hX h qv qb qh qk qs qg _ vl bf bh fr bk n us fe key sm gr root  j M hI hj) (xc_G WW_tbl (List.mem_append_right _ (List.mem_append_left _ (List.mem_of_getElem? (i := 146) rfl))) k_122 k_123 k_13 k_124) (by decide +kernel) ⟨rfl, rfl⟩ ⟨Nat.le_of_ble_eq_true rfl, Nat.le_of_ble_eq_true rfl⟩ hK hP hD hS hA [0, 1, 2, 3, 4, 5, 6, 7] [8, 9, 10] rfl rfl rfl rfl rfl (by decide) rfl rfl rfl rfl hl.1 rfl (Nat.le_of_ble_eq_true rfl) d_law_law_331 ⟨by decide, by decide⟩ (fun rX u H locs hwX hP hD hS => ?_)
      obtain ⟨vl2, bf2, bh2, fr2, bk2, n2, us2, fe2, key2, sm2, gr2, root2⟩ := u
      dsimp only at hwX
      obtain ⟨eX, hI2⟩ := hwX
      have hP : va_P D classes (ce_L cA hX h qv qb qh qk qs qg vl2 bf2 bh2 fr2 bk2 n2 us2 fe2 key2 sm2 gr2 root2 hM qa qc ks vs nm) H := hP.sub [3, 4, 5, 6, 7, 8, 9, 10, 0, 1, 2] rfl
      have hD : va_D A (ce_L cA hX h qv qb qh qk qs qg vl2 bf2 bh2 fr2 bk2 n2 us2 fe2 key2 sm2 gr2 root2 hM qa qc ks vs nm) := hD.sub [3, 4, 5, 6, 7, 8, 9, 10, 0, 1, 2] (by decide) rfl
      refine lv_aload_n hx hb d_law_law_334 rfl (lv_at hl 2 rfl) ?_
      refine xc_I (n := 0) (As := []) (rest := [.int rX]) (wr := ce_X cA hX h qv qb qh qk qs qg vl2 bf2 bh2 fr2 bk2 n2 us2 fe2 key2 sm2 gr2 root2) (wc := ce_M cA hM qa qc ks vs nm) hx hb hml hown hts (c_M_last l D cA hM qa qc _ ks vs nm  hnm4) (xc_G WW_tbl (List.mem_append_right _ (List.mem_append_left _ (List.mem_of_getElem? (i := 238) rfl))) k_190 k_191 k_15 k_192) (by decide +kernel) ⟨rfl, rfl⟩ ⟨Nat.le_of_ble_eq_true rfl, Nat.le_of_ble_eq_true rfl⟩ hK hP hD hS hA [8, 9, 10] [0, 1, 2, 3, 4, 5, 6, 7] rfl rfl rfl rfl rfl (by decide) rfl rfl rfl rfl hl.1 rfl (Nat.le_of_ble_eq_true rfl) d_law_law_335 ⟨by decide, by decide⟩ (fun rM u H locs hwM hP hD hS => ?_)
      obtain ⟨ks2, vs2, nm2⟩ := u
      dsimp only at hwM
      rw [heq] at hwM
      obtain ⟨eM, hM2, hn2⟩ := hwM
      have hP : va_P D classes (ce_L cA hX h qv qb qh qk qs qg vl2 bf2 bh2 fr2 bk2 n2 us2 fe2 key2 sm2 gr2 root2 hM qa qc ks2 vs2 nm2) H := hP
      have hD : va_D A (ce_L cA hX h qv qb qh qk qs qg vl2 bf2 bh2 fr2 bk2 n2 us2 fe2 key2 sm2 gr2 root2 hM qa qc ks2 vs2 nm2) := hD
      refine lv_icmp_eq (tgt := 367) hx hb d_law_law_338 (by decide) (fun _ => ?_) (fun q => absurd (eX.trans eM.symm) q)
      exact ht vl2 bf2 bh2 fr2 bk2 n2 us2 fe2 key2 sm2 gr2 root2 ks2 vs2 nm2 _ _ _ hI2 hM2 (by omega) hP hD hS
    · refine lv_tableIn (tgt := 343) hx hb d_law_law_32 (by decide) (by decide) rfl (by decide) ?_
      refine lv_aload_n hx hb d_law_law_343 rfl (lv_at hl 1 rfl) ?_
      refine xc_I (n := 0) (As := []) (rest := []) (wr := ce_M cA hM qa qc ks vs nm) (wc := ce_X cA hX h qv qb qh qk qs qg vl bf bh fr bk n us fe key sm gr root) hx hb hml hown hts (c_X_size l D cA hX h qv qb qh qk qs qg _ vl bf bh fr bk n us fe key sm gr root  j M hI hj) (xc_G WW_tbl (List.mem_append_right _ (List.mem_append_left _ (List.mem_of_getElem? (i := 150) rfl))) k_125 k_126 k_13 k_127) (by decide +kernel) ⟨rfl, rfl⟩ ⟨Nat.le_of_ble_eq_true rfl, Nat.le_of_ble_eq_true rfl⟩ hK hP hD hS hA [0, 1, 2, 3, 4, 5, 6, 7] [8, 9, 10] rfl rfl rfl rfl rfl (by decide) rfl rfl rfl rfl hl.1 rfl (Nat.le_of_ble_eq_true rfl) d_law_law_344 ⟨by decide, by decide⟩ (fun rX u H locs hwX hP hD hS => ?_)
      obtain ⟨vl2, bf2, bh2, fr2, bk2, n2, us2, fe2, key2, sm2, gr2, root2⟩ := u
      dsimp only at hwX
      obtain ⟨eX, hI2⟩ := hwX
      have hP : va_P D classes (ce_L cA hX h qv qb qh qk qs qg vl2 bf2 bh2 fr2 bk2 n2 us2 fe2 key2 sm2 gr2 root2 hM qa qc ks vs nm) H := hP.sub [3, 4, 5, 6, 7, 8, 9, 10, 0, 1, 2] rfl
      have hD : va_D A (ce_L cA hX h qv qb qh qk qs qg vl2 bf2 bh2 fr2 bk2 n2 us2 fe2 key2 sm2 gr2 root2 hM qa qc ks vs nm) := hD.sub [3, 4, 5, 6, 7, 8, 9, 10, 0, 1, 2] (by decide) rfl
      refine lv_aload_n hx hb d_law_law_347 rfl (lv_at hl 2 rfl) ?_
      refine xc_I (n := 0) (As := []) (rest := [.int rX]) (wr := ce_X cA hX h qv qb qh qk qs qg vl2 bf2 bh2 fr2 bk2 n2 us2 fe2 key2 sm2 gr2 root2) (wc := ce_M cA hM qa qc ks vs nm) hx hb hml hown hts (c_M_size l D cA hM qa qc _ ks vs nm  hnm4) (xc_G WW_tbl (List.mem_append_right _ (List.mem_append_right _ (List.mem_of_getElem? (i := 2) rfl))) k_193 k_194 k_15 k_195) (by decide +kernel) ⟨rfl, rfl⟩ ⟨Nat.le_of_ble_eq_true rfl, Nat.le_of_ble_eq_true rfl⟩ hK hP hD hS hA [8, 9, 10] [0, 1, 2, 3, 4, 5, 6, 7] rfl rfl rfl rfl rfl (by decide) rfl rfl rfl rfl hl.1 rfl (Nat.le_of_ble_eq_true rfl) d_law_law_348 ⟨by decide, by decide⟩ (fun rM u H locs hwM hP hD hS => ?_)
      obtain ⟨ks2, vs2, nm2⟩ := u
      dsimp only at hwM
      rw [heq] at hwM
      obtain ⟨eM, hM2, hn2⟩ := hwM
      have hP : va_P D classes (ce_L cA hX h qv qb qh qk qs qg vl2 bf2 bh2 fr2 bk2 n2 us2 fe2 key2 sm2 gr2 root2 hM qa qc ks2 vs2 nm2) H := hP
      have hD : va_D A (ce_L cA hX h qv qb qh qk qs qg vl2 bf2 bh2 fr2 bk2 n2 us2 fe2 key2 sm2 gr2 root2 hM qa qc ks2 vs2 nm2) := hD
      refine lv_icmp_eq (tgt := 367) hx hb d_law_law_351 (by decide) (fun _ => ?_) (fun q => absurd (eX.trans eM.symm) q)
      exact ht vl2 bf2 bh2 fr2 bk2 n2 us2 fe2 key2 sm2 gr2 root2 ks2 vs2 nm2 _ _ _ hI2 hM2 (by omega) hP hD hS
    · refine lv_tableIn (tgt := 356) hx hb d_law_law_32 (by decide) (by decide) rfl (by decide) ?_
      refine lv_aload_n hx hb d_law_law_356 rfl (lv_at hl 1 rfl) ?_
      refine xc_V (n := 0) (As := []) (rest := []) (wr := ce_M cA hM qa qc ks vs nm) (wc := ce_X cA hX h qv qb qh qk qs qg vl bf bh fr bk n us fe key sm gr root) hx hb hml hown hts (c_X_clear l D cA hX h qv qb qh qk qs qg _ vl bf bh fr bk n us fe key sm gr root  j M hI hj) (xc_G WW_tbl (List.mem_append_right _ (List.mem_append_left _ (List.mem_of_getElem? (i := 154) rfl))) k_128 k_129 k_13 k_130) (by decide +kernel) ⟨rfl, rfl⟩ ⟨Nat.le_of_ble_eq_true rfl, Nat.le_of_ble_eq_true rfl⟩ hK hP hD hS hA [0, 1, 2, 3, 4, 5, 6, 7] [8, 9, 10] rfl rfl rfl rfl rfl (by decide) rfl rfl rfl rfl hl.1 rfl (Nat.le_of_ble_eq_true rfl) d_law_law_357 ⟨by decide, by decide⟩ (fun u H locs hwX hP hD hS => ?_)
      obtain ⟨vl2, bf2, bh2, fr2, bk2, n2, us2, fe2, key2, sm2, gr2, root2⟩ := u
      dsimp only at hwX
      have hI2 := hwX
      have hP : va_P D classes (ce_L cA hX h qv qb qh qk qs qg vl2 bf2 bh2 fr2 bk2 n2 us2 fe2 key2 sm2 gr2 root2 hM qa qc ks vs nm) H := hP.sub [3, 4, 5, 6, 7, 8, 9, 10, 0, 1, 2] rfl
      have hD : va_D A (ce_L cA hX h qv qb qh qk qs qg vl2 bf2 bh2 fr2 bk2 n2 us2 fe2 key2 sm2 gr2 root2 hM qa qc ks vs nm) := hD.sub [3, 4, 5, 6, 7, 8, 9, 10, 0, 1, 2] (by decide) rfl
      refine lv_aload_n hx hb d_law_law_360 rfl (lv_at hl 2 rfl) ?_
      refine xc_V (n := 0) (As := []) (rest := []) (wr := ce_X cA hX h qv qb qh qk qs qg vl2 bf2 bh2 fr2 bk2 n2 us2 fe2 key2 sm2 gr2 root2) (wc := ce_M cA hM qa qc ks vs nm) hx hb hml hown hts (c_M_clear l D cA hM qa qc _ ks vs nm  hnm4) (xc_G WW_tbl (List.mem_append_right _ (List.mem_append_right _ (List.mem_of_getElem? (i := 6) rfl))) k_196 k_197 k_15 k_198) (by decide +kernel) ⟨rfl, rfl⟩ ⟨Nat.le_of_ble_eq_true rfl, Nat.le_of_ble_eq_true rfl⟩ hK hP hD hS hA [8, 9, 10] [0, 1, 2, 3, 4, 5, 6, 7] rfl rfl rfl rfl rfl (by decide) rfl rfl rfl rfl hl.1 rfl (Nat.le_of_ble_eq_true rfl) d_law_law_361 ⟨by decide, by decide⟩ (fun u H locs hwM hP hD hS => ?_)
      obtain ⟨ks2, vs2, nm2⟩ := u
      dsimp only at hwM
      obtain ⟨hM2, hn2⟩ := hwM
      have hP : va_P D classes (ce_L cA hX h qv qb qh qk qs qg vl2 bf2 bh2 fr2 bk2 n2 us2 fe2 key2 sm2 gr2 root2 hM qa qc ks2 vs2 nm2) H := hP
      have hD : va_D A (ce_L cA hX h qv qb qh qk qs qg vl2 bf2 bh2 fr2 bk2 n2 us2 fe2 key2 sm2 gr2 root2 hM qa qc ks2 vs2 nm2) := hD
      refine lv_goto (tgt := 367) hx hb d_law_law_364 (by decide) ?_
      exact ht vl2 bf2 bh2 fr2 bk2 n2 us2 fe2 key2 sm2 gr2 root2 ks2 vs2 nm2 _ _ _ hI2 hM2 (by omega) hP hD hS
    · have hgt : (12 : Int) < (nI w).toInt := by
        rw [nI_toInt (by omega)]
        omega
      refine lv_tableOut (tgt := 367) hx hb d_law_law_32 (Or.inr hgt) (by decide) ?_
      obtain ⟨lst, o, fl, hJ, eM⟩ := hI
      exact ht vl bf bh fr bk n us fe key sm gr root ks vs nm M _ _ ⟨lst, o, fl, rm_J_up hJ, eM⟩ heq (by omega) hP hD hS
end
section
set_option maxHeartbeats 8000000 in
set_option maxRecDepth 100000 in
/-- the law, from its entry -/
theorem whole_start {p : Program} {e : Env} {s : State} {m : MethodId} {below : List Frame} {meth : Method} {c : Code} (l : Launch) {b L : Nat} {xs : Nat → Int32} (hL : L ≤ 1536) (C0 : lw_At p s m meth c b L xs) : W p l e room_1 s m #[Value.ref b] below meth c s.heap [] 0 0 (lw_Z below #[Value.ref b] s) (entryFrame m ([Value.ref b] : List Value).toArray 4) := by
  obtain ⟨hx, hb, hr, hml, hown, hts, hsc, hbl, hlocks, hgv⟩ := id C0
  have hown : s.vm.findClass "RecentMapLaw" = some m.cls := hown
  obtain ⟨A, hAd⟩ : ∃ A : Nat → Prop, A = fun q : Nat => s.heap.size ≤ q := ⟨_, rfl⟩
  have hA : ∀ q : Nat, s.heap.size ≤ q → A q := fun q h => by rw [hAd]; exact h
  obtain ⟨cT, iST, hKnT⟩ := u_known (C := R_T) (T := F_T) (N := 4) (n := 4) hts (fun w h => WW_tbl w (i_T w h)) (hts (.instantiable "RecentMap$Tree" 4) (WW_tbl _ k_23))
  obtain ⟨cX, iSX, hKnX⟩ := u_known (C := R_X) (T := F_X) (N := 9) (n := 9) hts (fun w h => WW_tbl w (i_X w h)) (hts (.instantiable "RecentMap" 9) (WW_tbl _ k_16))
  obtain ⟨cM, iSM, hKnM⟩ := u_known (C := R_M) (T := F_M) (N := 3) (n := 3) hts (fun w h => WW_tbl w (i_M w h)) (hts (.instantiable "RecentMapModel" 3) (WW_tbl _ k_135))
  obtain ⟨D, hKc⟩ : ∃ D : va_G, ∀ (k : Nat) (q : vw_C), classes[k]? = some q → u_Kn s q.1 q.2.1 q.2.2 (D.1 k) (D.2 k) := by
    refine ⟨(fun k => if k = 0 then cT else if k = 1 then cX else cM, fun k => if k = 0 then iST else if k = 1 then iSX else iSM), ?_⟩
    intro k q hq
    match k, hq with
    | 0, hq => cases hq; exact hKnT
    | 1, hq => cases hq; exact hKnX
    | 2, hq => cases hq; exact hKnM
    | k + 3, hq => simp [classes] at hq
  obtain ⟨cA, hK⟩ := xa_K hKc (hts (.arrayClass .int) (WW_tbl _ k_36))
  have hS : va_S A s.heap s.heap [] := va_S.rf
  have hP : va_P D classes [] s.heap := fun k q h => by simp at h
  have hD : va_D A [] := ⟨fun i j p q h => by simp at h, fun k q h => by simp at h⟩
  have hl := lv_entry ([.ref b]) (n := 4) (Nat.le_of_ble_eq_true rfl)
  rw [lg_entry_eq]
  generalize (lg_sl ([.ref b]) ++ List.replicate (4 - (lg_sl ([.ref b])).length) Slot.unset).toArray = ls at hl ⊢
  have hl : lv_has ls 4 [(0, .ref b)] := hl
  have hZ : va_Nw (.methodLinkNest "RecentMap" 9 y_T_init "RecentMap") s := va_Nw.of rfl (hts _ (List.mem_append_right _ (List.mem_append_left _ (List.mem_of_getElem? (i := 14) rfl))))
  refine va_new (ci := 1) (fs := [.null, .null, .null, .null, .int 0, .int 0, .int 0, .int 0, .int 0]) (C := R_X) (T := F_X) (N := 9) hx hb hts (fun w h => WW_tbl w (i_X w h)) ty_X ty_X_ok hown (hts (.classLink "RecentMapLaw" 7 "RecentMap") (List.mem_append_right _ (List.mem_append_left _ (List.mem_of_getElem? (i := 4) rfl)))) (hts (.instantiable "RecentMap" 9) (WW_tbl _ k_16)) (hts (.initialized "RecentMap") (WW_tbl _ k_13)) hK hP hD hS hA rfl (fun j hj => by rcases (show j = 0 ∨ j = 1 ∨ j = 2 ∨ j = 3 ∨ j = 4 ∨ j = 5 ∨ j = 6 ∨ j = 7 ∨ j = 8 by omega) with rfl | rfl | rfl | rfl | rfl | rfl | rfl | rfl | rfl <;> rfl) (by decide) (by decide) d_law_law_0 (fun hX H hP hD hS => ?_)
  have hP : va_P D classes [(hX, .inr (1, [.null, .null, .null, .null, .int 0, .int 0, .int 0, .int 0, .int 0]))] H := hP
  have hD : va_D A [(hX, .inr (1, [.null, .null, .null, .null, .int 0, .int 0, .int 0, .int 0, .int 0]))] := hD
  refine W.widen (k := 1) (n := 9) (by decide) (by decide) ?_
  refine lv_dup hx hb d_law_law_3 rfl ?_
  have hPc := hP.sub (ws' := [(hX, .inr (1, [.null, .null, .null, .null, .int 0, .int 0, .int 0, .int 0, .int 0]))]) [0] rfl
  have hDc := hD.sub (ws' := [(hX, .inr (1, [.null, .null, .null, .null, .int 0, .int 0, .int 0, .int 0, .int 0]))]) [0] (by decide) rfl
  have hFc := va_free (wc := [(hX, .inr (1, [.null, .null, .null, .null, .int 0, .int 0, .int 0, .int 0, .int 0]))]) hD hS hA [0] rfl
  refine va_callv (va_runI (As := []) (rest := [.ref hX]) ⟨hx, hb, hml, hown, hts⟩ (show Met _ _ _ _ _ _ _ _ _ from c_X_init l D cA hX H.size) (cwI 0 hts (xc_GI WW_tbl k_18) rfl rfl rfl (hts (.initialized "RecentMap") (WW_tbl _ k_13)) (hts (.methodLink "RecentMapLaw" 9 y_X_init) (List.mem_append_right _ (List.mem_append_left _ (List.mem_of_getElem? (i := 6) rfl)))) (hts (.instanceMethod y_X_init) (WW_tbl _ k_17)) rfl (by decide +kernel) ⟨Nat.le_of_ble_eq_true rfl, Nat.le_of_ble_eq_true rfl⟩) ⟨fun a U g mk q => by obtain ⟨q0, q1, qP, qK, qD, qE⟩ := q; exact ⟨q0, q1, qP, va_K.moved (u := U) (U := U.calling g mk a) (Vm.Alike.refl U.vm) qK, qD, va_Nw.same rfl rfl qE⟩, fun U hU hW => ⟨rfl, by rw [hU], by rw [hU]; exact hPc, va_K.moved hW.alike hK, hDc.weaken (fun _ _ _ _ => trivial), va_Nw.warmM hW hZ⟩⟩ rfl rfl hl.1 rfl (lv_room (Nat.le_of_ble_eq_true rfl)) d_law_law_4 ⟨by decide, by decide⟩) hS (fun q _ h => hFc q h) hFc (fun u t H1 locs ht hvm hw hB hz1 hk1 hS => ?_)
  obtain ⟨h, qv, qb, qh, qk, qs, qg⟩ := u
  obtain ⟨hP1, hK1, hD1⟩ := hB
  rw [ht] at hP1
  obtain ⟨hP, hD⟩ := va_join (wr := []) (w1 := ce_X cA hX h qv qb qh qk qs qg (fun _ => 0) (fun _ => 0) (fun _ => 0) 0 0 0 0 0 (fun _ => 0) (fun _ => 0) (fun _ => 0) 0) hP hD [0] [] rfl rfl (by decide) (by decide) hk1 hFc hP1 hD1
  generalize H1 = H at hP hS ⊢
  have hP : va_P D classes (ce_X cA hX h qv qb qh qk qs qg (fun _ => 0) (fun _ => 0) (fun _ => 0) 0 0 0 0 0 (fun _ => 0) (fun _ => 0) (fun _ => 0) 0) H := hP
  have hD : va_D A (ce_X cA hX h qv qb qh qk qs qg (fun _ => 0) (fun _ => 0) (fun _ => 0) 0 0 0 0 0 (fun _ => 0) (fun _ => 0) (fun _ => 0) 0) := hD
  refine W.widen (k := 8) (n := 24595) (by decide) (by decide) ?_
  refine lv_astore_n (lv' := [(1, .ref hX), (0, .ref b)]) hx hb d_law_law_7 rfl hl (by decide) rfl (fun ls hl => ?_)
  refine va_new (ci := 2) (fs := [.null, .null, .int 0]) (C := R_M) (T := F_M) (N := 3) hx hb hts (fun w h => WW_tbl w (i_M w h)) ty_M ty_M_ok hown (hts (.classLink "RecentMapLaw" 10 "RecentMapModel") (List.mem_append_right _ (List.mem_append_left _ (List.mem_of_getElem? (i := 162) rfl)))) (hts (.instantiable "RecentMapModel" 3) (WW_tbl _ k_135)) (hts (.initialized "RecentMapModel") (WW_tbl _ k_15)) hK hP hD hS hA rfl (fun j hj => by rcases (show j = 0 ∨ j = 1 ∨ j = 2 by omega) with rfl | rfl | rfl <;> rfl) (by decide) (by decide) d_law_law_8 (fun hM H hP hD hS => ?_)
  have hP : va_P D classes (ce_X cA hX h qv qb qh qk qs qg (fun _ => 0) (fun _ => 0) (fun _ => 0) 0 0 0 0 0 (fun _ => 0) (fun _ => 0) (fun _ => 0) 0 ++ [(hM, .inr (2, [.null, .null, .int 0]))]) H := hP
  have hD : va_D A (ce_X cA hX h qv qb qh qk qs qg (fun _ => 0) (fun _ => 0) (fun _ => 0) 0 0 0 0 0 (fun _ => 0) (fun _ => 0) (fun _ => 0) 0 ++ [(hM, .inr (2, [.null, .null, .int 0]))]) := hD
  refine W.widen (k := 9) (n := 24598) (by decide) (by decide) ?_
  refine lv_dup hx hb d_law_law_11 rfl ?_
  have hPc := hP.sub (ws' := [(hM, .inr (2, [.null, .null, .int 0]))]) [8] rfl
  have hDc := hD.sub (ws' := [(hM, .inr (2, [.null, .null, .int 0]))]) [8] (by decide) rfl
  have hFc := va_free (wc := [(hM, .inr (2, [.null, .null, .int 0]))]) hD hS hA [8] rfl
  refine va_callv (va_runI (As := []) (rest := [.ref hM]) ⟨hx, hb, hml, hown, hts⟩ (show Met _ _ _ _ _ _ _ _ _ from c_M_init l D cA hM H.size) (cwI 0 hts (xc_GI WW_tbl k_137) rfl rfl rfl (hts (.initialized "RecentMapModel") (WW_tbl _ k_15)) (hts (.methodLink "RecentMapLaw" 12 y_M_init) (List.mem_append_right _ (List.mem_append_left _ (List.mem_of_getElem? (i := 164) rfl)))) (hts (.instanceMethod y_M_init) (WW_tbl _ k_136)) rfl (by decide +kernel) ⟨Nat.le_of_ble_eq_true rfl, Nat.le_of_ble_eq_true rfl⟩) ⟨fun a U g mk q => by obtain ⟨q0, q1, qP, qK, qD, qE⟩ := q; exact ⟨q0, q1, qP, va_K.moved (u := U) (U := U.calling g mk a) (Vm.Alike.refl U.vm) qK, qD, trivial⟩, fun U hU hW => ⟨rfl, by rw [hU], by rw [hU]; exact hPc, va_K.moved hW.alike hK, hDc.weaken (fun _ _ _ _ => trivial), trivial⟩⟩ rfl rfl hl.1 rfl (lv_room (Nat.le_of_ble_eq_true rfl)) d_law_law_12 ⟨by decide, by decide⟩) hS (fun q _ h => hFc q h) hFc (fun u t H1 locs ht hvm hw hB hz1 hk1 hS => ?_)
  obtain ⟨qa, qc⟩ := u
  obtain ⟨hP1, hK1, hD1⟩ := hB
  rw [ht] at hP1
  obtain ⟨hP, hD⟩ := va_join (wr := ce_X cA hX h qv qb qh qk qs qg (fun _ => 0) (fun _ => 0) (fun _ => 0) 0 0 0 0 0 (fun _ => 0) (fun _ => 0) (fun _ => 0) 0) (w1 := ce_M cA hM qa qc (fun _ => 0) (fun _ => 0) 0) hP hD [8] [0, 1, 2, 3, 4, 5, 6, 7] rfl rfl (by decide) (by decide) hk1 hFc hP1 hD1
  generalize H1 = H at hP hS ⊢
  have hP : va_P D classes (ce_L cA hX h qv qb qh qk qs qg (fun _ => 0) (fun _ => 0) (fun _ => 0) 0 0 0 0 0 (fun _ => 0) (fun _ => 0) (fun _ => 0) 0 hM qa qc (fun _ => 0) (fun _ => 0) 0) H := hP
  have hD : va_D A (ce_L cA hX h qv qb qh qk qs qg (fun _ => 0) (fun _ => 0) (fun _ => 0) 0 0 0 0 0 (fun _ => 0) (fun _ => 0) (fun _ => 0) 0 hM qa qc (fun _ => 0) (fun _ => 0) 0) := hD
  refine W.widen (k := 11) (n := 32790) (by decide) (by decide) ?_
  refine lv_astore_n (lv' := [(2, .ref hM), (1, .ref hX), (0, .ref b)]) hx hb d_law_law_15 rfl hl (by decide) rfl (fun ls hl => ?_)
  refine lv_iconst (v := 0) hx hb d_law_law_16 (by decide) ?_
  refine lv_istore_n (lv' := [(3, .int 0), (2, .ref hM), (1, .ref hX), (0, .ref b)]) hx hb d_law_law_17 rfl hl (by decide) rfl (fun ls hl => ?_)
  exact law_loop hAd hL C0 hK L 0 _ _ _ 0 0 0 0 0 _ _ _ 0 _ _ 0 [] _ _ _ (by omega) (by omega) (rm_clear 0 _ _ _ _ _ _) rfl (Nat.le_refl 0) hP hD hS (lv_sub hl [3, 2, 1, 0] rfl)
end
section
-- ===== YOUR PART ENDS =====
set_option maxHeartbeats 4000000 in
theorem lw_walk (l : Launch) (b : Addr) (xs : List Int32) : MetFree l x (headSpec (Jvm.Cond.code x code maxLocals ret :: tables_1) room_1) (lw_P b xs) (fun _ _ _ _ _ => True) lw_Q := by
  refine MetFree.of_bodyS (code := code) (maxLocals := maxLocals) (ret := ret) (by decide) ?_ ?_
  · intro args s m h hn
    obtain ⟨meth, c, h1, h2, h3, h4, h5, h6, -, -⟩ := Cond.code_spec hn (atoms_spec (ws := Jvm.Cond.code x code maxLocals ret :: tables_1) h _ List.mem_cons_self)
    exact ⟨meth, c, h1, h2, h3, h4, h5, h6⟩
  · intro p e s m args below meth c s₁ B hml0 hP _
    obtain ⟨rfl, hx, hbd, hgv⟩ := hP
    obtain ⟨scr, harrAt, hlist, hof, hsmall⟩ := hx
    obtain ⟨hcb, hkn, -, -⟩ := State.arrayAt?_spec harrAt
    have hown : s.vm.findClass R_law = some m.cls := findClass_of_methodNamed B.named
    have hts0 : ∀ c ∈ (Jvm.Cond.code x code maxLocals ret :: tables_1), c.before #[Value.ref b] s = true := atoms_spec (ws := Jvm.Cond.code x code maxLocals ret :: tables_1) B.pre
    have hts : ∀ w ∈ lw_tbl, w.before #[Value.ref b] s = true := k2_hts_sels lw_privs (fun w hw => hts0 w (List.mem_cons_of_mem _ hw)) lw_privs_ok
    have hml : c.maxLocals = 4 := B.maxLocals_eq (hts0 _ List.mem_cons_self)
    have X₀ : Stand p l e room_1 s m #[Value.ref b] below meth c s₁ [] 0 0 := Stand.of_body B
    have hh0 : s₁.heap = s.heap := by rw [B.state]; rfl
    have hsz : scr.slots.size = xs.length := by rw [← Array.length_toList, hlist, List.length_map]
    have hval : ∀ j : Nat, j < xs.length → scr.slots[j]? = some (.int (xs.getD j 0)) := fun j hj => by
      rw [← Array.getElem?_toList, hlist]
      simp [hj]
    have hbl : b < s.heap.size := (Array.getElem?_eq_some_iff.mp hcb).1
    have hX : va_X b xs.length (fun j => xs.getD j 0) s s.heap := ⟨scr, hcb, hof, hkn, hsz, hval⟩
    have K : W p l e room_1 s m #[Value.ref b] below meth c s₁.heap [] 0 0 (lw_Z below #[Value.ref b] s) (entryFrame m ([Value.ref b] : List Value).toArray 4) := by
      rw [hh0]
      exact whole_start l hbd ⟨B.exec, B.bytes, B.returns, hml, hown, hts, hX, hbl, B.notSynchronized, hgv⟩
    obtain ⟨t, a1, o, b1, b2, b3⟩ := K s₁ rfl X₀
    exact ⟨t, o, a1, b1, b2, b3⟩
theorem lw_pre_spec {args : Array Value} {s : State} (h : (Jvm.Cond.and given_1 narrow_1).before args s = true) (hr : rest_1_c.before args s = true) : ∃ (b : Addr) (xs : List Int32), lw_P b xs args s := by
  have hs := flat_of_before _ h
  have hq := flat_of_before _ hr
  have hc : (Cond.count 1).before args s = true := hs _ (by decide +kernel)
  have harr : (Cond.arrayOf (.arg 0) .int).before args s = true := hs _ (by decide +kernel)
  have hle : (Cond.le (.length (.arg 0)) (.int 1536)).before args s = true := hs _ (by decide +kernel)
  have hlen : (Cond.isInt (.length (.arg 0))).before args s = true := hq _ (by decide +kernel)
  have hall : (Cond.all (.arg 0) (.isInt (.elem (.arg 0) (.index 0)))).before args s = true := hq _ (by decide +kernel)
  obtain ⟨b, xs, hb, hx⟩ := State.ints_of_pre rfl harr hlen hall
  have hsm : xs.length < 2 ^ 31 := hx.choose_spec.2.2.2
  have hev : (Term.length (.arg 0)).eval args s none [] s = some (.int xs.length.toInt32) := hx.length_eval hb
  have hv := Cond.le_ints hev (show (Term.int 1536).eval args s none [] s = some (.int 1536) from rfl)
  have hd : xs.length.toInt32 ≤ 1536 := by
    simpa [Cond.before, Cond.holds, hv] using hle
  have hN : xs.length ≤ 1536 := (Int32.ofNat_le_ofNat hsm (by decide)).mp (show Int32.ofNat xs.length ≤ Int32.ofNat 1536 from hd)
  exact ⟨b, xs, Cond.one_arg hc (show args[0]? = some (.ref b) from hb), hx, hN, h⟩
theorem lw_comes (l : Launch) : Comes l x (Jvm.Cond.code x code maxLocals ret :: tables_1) room_1 (fun tb e args s => Calls_1 tb e args s ∧ rest_1 tb e args s ∧ Pre_1 tb e args s)
    (fun _ _ args s o t => lw_Q args s o t) := by
  intro p e ha hc hk s m args below hf hfit hheap happ hpre
  obtain ⟨b, xs, hP⟩ := lw_pre_spec hpre.2.2 hpre.2.1
  obtain ⟨k, o, h1, h2, h3, hQ⟩ := lw_walk l b xs p e ha hc hk s m args below hf ((Spec.applies_iff_loose hf).mp happ).1 hP trivial
  exact ⟨k, o, h1, h2, h3, hQ⟩
theorem lw_frame {s t : State} {o : Outcome} {args : Array Value} (h : Framed s o t [] 11 32790) :
    Framed s o t (fieldLocs frame_1_writes args s ++ arrayLocs frame_1_arrays args s ++ staticLocs frame_1_statics s) 11 32790 := h
theorem lw_limb (L : Cond) (hL : ∀ (args : Array Value) (s t : State), L.after args s (.returned (some (.int 1))) t = true) :
    ArmFor flags0 classFile x code maxLocals ret World_1 tables_1 room_1 Calls_1 rest_1 Pre_1
      (fun tb e a s o t => postC L tb e a s o t ∧ Framed s o t (fieldLocs frame_1_writes a s ++ arrayLocs frame_1_arrays a s ++ staticLocs frame_1_statics s) 11 32790) := by
  intro l _ _ _ p e ha hc hk s m args below hf hfit hheap happ hpre
  obtain ⟨k, o, h1, h2, h3, rfl, hF⟩ := lw_comes l p e ha hc hk s m args below hf hfit hheap happ hpre
  exact ⟨k, _, h1, h2, h3, hL args s _, lw_frame hF⟩
theorem i_vc : Claimed_1_1 ∧ Claimed_1_2 := ⟨lw_limb limb_1_1 (fun args s t => by simp [limb_1_1, Cond.after, Cond.holds, Cond.value]), lw_limb limb_1_2 (fun args s t => Cond.after_iff.mpr (by
  first | (rw [show limb_1_2 = Cond.eq .result (.int 1) from rfl, Cond.eq_ints (x := 1) (y := 1) rfl rfl]; simp; done) | (simp [limb_1_2, Cond.value, Term.eval]; done)))⟩
end
