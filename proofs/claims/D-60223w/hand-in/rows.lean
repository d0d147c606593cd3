section
-- ===== PART A: goes FIRST, ahead of the names: the tables' words, and 'selects' of the private methods out of them =====
/-- a private method of a class that the tables say can be made, by its rows of tables_1 -/
def lw_okq (q : MethodName × Nat) : Prop := (q.1.cls ≠ "java/lang/invoke/MethodHandle" ∧ q.1.cls ≠ "java/lang/invoke/VarHandle") ∧ Cond.instantiable q.1.cls q.2 ∈ tables_1 ∧ Cond.privateMethod q.1 ∈ tables_1 ∧ Cond.instanceMethod q.1 ∈ tables_1
theorem lw_p0 : lw_okq (⟨"SyscallFilter", "carry", "(II)V"⟩, 31) := ⟨⟨by decide +kernel, by decide +kernel⟩, List.mem_of_getElem? (i := 4) (by decide +kernel), List.mem_of_getElem? (i := 126) (by decide +kernel), List.mem_of_getElem? (i := 127) (by decide +kernel)⟩
theorem lw_p1 : lw_okq (⟨"SyscallFilter", "isRule", "(I)Z"⟩, 31) := ⟨⟨by decide +kernel, by decide +kernel⟩, List.mem_of_getElem? (i := 4) (by decide +kernel), List.mem_of_getElem? (i := 134) (by decide +kernel), List.mem_of_getElem? (i := 135) (by decide +kernel)⟩
theorem lw_p2 : lw_okq (⟨"SyscallFilter", "compile", "()V"⟩, 31) := ⟨⟨by decide +kernel, by decide +kernel⟩, List.mem_of_getElem? (i := 4) (by decide +kernel), List.mem_of_getElem? (i := 162) (by decide +kernel), List.mem_of_getElem? (i := 163) (by decide +kernel)⟩
theorem lw_p3 : lw_okq (⟨"SyscallFilter", "normalise", "(I)V"⟩, 31) := ⟨⟨by decide +kernel, by decide +kernel⟩, List.mem_of_getElem? (i := 4) (by decide +kernel), List.mem_of_getElem? (i := 166) (by decide +kernel), List.mem_of_getElem? (i := 167) (by decide +kernel)⟩
theorem lw_p4 : lw_okq (⟨"SyscallFilter", "cutStretches", "()V"⟩, 31) := ⟨⟨by decide +kernel, by decide +kernel⟩, List.mem_of_getElem? (i := 4) (by decide +kernel), List.mem_of_getElem? (i := 172) (by decide +kernel), List.mem_of_getElem? (i := 173) (by decide +kernel)⟩
theorem lw_p5 : lw_okq (⟨"SyscallFilter", "buildChain", "(I)I"⟩, 31) := ⟨⟨by decide +kernel, by decide +kernel⟩, List.mem_of_getElem? (i := 4) (by decide +kernel), List.mem_of_getElem? (i := 176) (by decide +kernel), List.mem_of_getElem? (i := 177) (by decide +kernel)⟩
theorem lw_p6 : lw_okq (⟨"SyscallFilter", "test", "(II)I"⟩, 31) := ⟨⟨by decide +kernel, by decide +kernel⟩, List.mem_of_getElem? (i := 4) (by decide +kernel), List.mem_of_getElem? (i := 180) (by decide +kernel), List.mem_of_getElem? (i := 181) (by decide +kernel)⟩
theorem lw_p7 : lw_okq (⟨"SyscallFilter", "buildTree", "()V"⟩, 31) := ⟨⟨by decide +kernel, by decide +kernel⟩, List.mem_of_getElem? (i := 4) (by decide +kernel), List.mem_of_getElem? (i := 184) (by decide +kernel), List.mem_of_getElem? (i := 185) (by decide +kernel)⟩
theorem lw_p8 : lw_okq (⟨"SyscallFilter", "stretchOf", "(I)I"⟩, 31) := ⟨⟨by decide +kernel, by decide +kernel⟩, List.mem_of_getElem? (i := 4) (by decide +kernel), List.mem_of_getElem? (i := 188) (by decide +kernel), List.mem_of_getElem? (i := 189) (by decide +kernel)⟩
theorem lw_p9 : lw_okq (⟨"SyscallFilter", "verdict", "(I)I"⟩, 31) := ⟨⟨by decide +kernel, by decide +kernel⟩, List.mem_of_getElem? (i := 4) (by decide +kernel), List.mem_of_getElem? (i := 192) (by decide +kernel), List.mem_of_getElem? (i := 193) (by decide +kernel)⟩
theorem lw_p10 : lw_okq (⟨"SyscallFilter", "follow", "(I)I"⟩, 31) := ⟨⟨by decide +kernel, by decide +kernel⟩, List.mem_of_getElem? (i := 4) (by decide +kernel), List.mem_of_getElem? (i := 196) (by decide +kernel), List.mem_of_getElem? (i := 197) (by decide +kernel)⟩
theorem lw_p11 : lw_okq (⟨"SyscallFilter", "holds", "(I)Z"⟩, 31) := ⟨⟨by decide +kernel, by decide +kernel⟩, List.mem_of_getElem? (i := 4) (by decide +kernel), List.mem_of_getElem? (i := 200) (by decide +kernel), List.mem_of_getElem? (i := 201) (by decide +kernel)⟩
theorem lw_p12 : lw_okq (⟨"SyscallFilter", "meets", "(I)Z"⟩, 31) := ⟨⟨by decide +kernel, by decide +kernel⟩, List.mem_of_getElem? (i := 4) (by decide +kernel), List.mem_of_getElem? (i := 204) (by decide +kernel), List.mem_of_getElem? (i := 205) (by decide +kernel)⟩
theorem lw_p13 : lw_okq (⟨"SyscallFilterModel", "badNumber", "(I)Z"⟩, 9) := ⟨⟨by decide +kernel, by decide +kernel⟩, List.mem_of_getElem? (i := 236) (by decide +kernel), List.mem_of_getElem? (i := 274) (by decide +kernel), List.mem_of_getElem? (i := 275) (by decide +kernel)⟩
theorem lw_p14 : lw_okq (⟨"SyscallFilterModel", "badAction", "(I)Z"⟩, 9) := ⟨⟨by decide +kernel, by decide +kernel⟩, List.mem_of_getElem? (i := 236) (by decide +kernel), List.mem_of_getElem? (i := 286) (by decide +kernel), List.mem_of_getElem? (i := 287) (by decide +kernel)⟩
theorem lw_p15 : lw_okq (⟨"SyscallFilterModel", "insert", "(II)V"⟩, 9) := ⟨⟨by decide +kernel, by decide +kernel⟩, List.mem_of_getElem? (i := 236) (by decide +kernel), List.mem_of_getElem? (i := 290) (by decide +kernel), List.mem_of_getElem? (i := 291) (by decide +kernel)⟩
def lw_privs_1 : List (MethodName × Nat) := [(⟨"SyscallFilter", "carry", "(II)V"⟩, 31), (⟨"SyscallFilter", "isRule", "(I)Z"⟩, 31), (⟨"SyscallFilter", "compile", "()V"⟩, 31), (⟨"SyscallFilter", "normalise", "(I)V"⟩, 31), (⟨"SyscallFilter", "cutStretches", "()V"⟩, 31), (⟨"SyscallFilter", "buildChain", "(I)I"⟩, 31), (⟨"SyscallFilter", "test", "(II)I"⟩, 31), (⟨"SyscallFilter", "buildTree", "()V"⟩, 31), (⟨"SyscallFilter", "stretchOf", "(I)I"⟩, 31), (⟨"SyscallFilter", "verdict", "(I)I"⟩, 31), (⟨"SyscallFilter", "follow", "(I)I"⟩, 31), (⟨"SyscallFilter", "holds", "(I)Z"⟩, 31), (⟨"SyscallFilter", "meets", "(I)Z"⟩, 31), (⟨"SyscallFilterModel", "badNumber", "(I)Z"⟩, 9), (⟨"SyscallFilterModel", "badAction", "(I)Z"⟩, 9), (⟨"SyscallFilterModel", "insert", "(II)V"⟩, 9)]
theorem lw_r1 : ∀ q ∈ lw_privs_1, lw_okq q := List.forall_mem_cons.mpr ⟨lw_p0, List.forall_mem_cons.mpr ⟨lw_p1, List.forall_mem_cons.mpr ⟨lw_p2, List.forall_mem_cons.mpr ⟨lw_p3, List.forall_mem_cons.mpr ⟨lw_p4, List.forall_mem_cons.mpr ⟨lw_p5, List.forall_mem_cons.mpr ⟨lw_p6, List.forall_mem_cons.mpr ⟨lw_p7, List.forall_mem_cons.mpr ⟨lw_p8, List.forall_mem_cons.mpr ⟨lw_p9, List.forall_mem_cons.mpr ⟨lw_p10, List.forall_mem_cons.mpr ⟨lw_p11, List.forall_mem_cons.mpr ⟨lw_p12, List.forall_mem_cons.mpr ⟨lw_p13, List.forall_mem_cons.mpr ⟨lw_p14, List.forall_mem_cons.mpr ⟨lw_p15, fun _ h => absurd h List.not_mem_nil⟩⟩⟩⟩⟩⟩⟩⟩⟩⟩⟩⟩⟩⟩⟩⟩
theorem lw_p16 : lw_okq (⟨"SyscallFilterModel", "copy", "(II)V"⟩, 9) := ⟨⟨by decide +kernel, by decide +kernel⟩, List.mem_of_getElem? (i := 236) (by decide +kernel), List.mem_of_getElem? (i := 294) (by decide +kernel), List.mem_of_getElem? (i := 295) (by decide +kernel)⟩
theorem lw_p17 : lw_okq (⟨"SyscallFilterModel", "badRule", "(I)Z"⟩, 9) := ⟨⟨by decide +kernel, by decide +kernel⟩, List.mem_of_getElem? (i := 236) (by decide +kernel), List.mem_of_getElem? (i := 302) (by decide +kernel), List.mem_of_getElem? (i := 303) (by decide +kernel)⟩
theorem lw_p18 : lw_okq (⟨"SyscallFilterModel", "takeOut", "(I)V"⟩, 9) := ⟨⟨by decide +kernel, by decide +kernel⟩, List.mem_of_getElem? (i := 236) (by decide +kernel), List.mem_of_getElem? (i := 306) (by decide +kernel), List.mem_of_getElem? (i := 307) (by decide +kernel)⟩
theorem lw_p19 : lw_okq (⟨"SyscallFilterModel", "verdict", "(I)I"⟩, 9) := ⟨⟨by decide +kernel, by decide +kernel⟩, List.mem_of_getElem? (i := 236) (by decide +kernel), List.mem_of_getElem? (i := 334) (by decide +kernel), List.mem_of_getElem? (i := 335) (by decide +kernel)⟩
theorem lw_p20 : lw_okq (⟨"SyscallFilterModel", "firstMatch", "(I)I"⟩, 9) := ⟨⟨by decide +kernel, by decide +kernel⟩, List.mem_of_getElem? (i := 236) (by decide +kernel), List.mem_of_getElem? (i := 338) (by decide +kernel), List.mem_of_getElem? (i := 339) (by decide +kernel)⟩
theorem lw_p21 : lw_okq (⟨"SyscallFilterModel", "matches", "(II)Z"⟩, 9) := ⟨⟨by decide +kernel, by decide +kernel⟩, List.mem_of_getElem? (i := 236) (by decide +kernel), List.mem_of_getElem? (i := 342) (by decide +kernel), List.mem_of_getElem? (i := 343) (by decide +kernel)⟩
theorem lw_p22 : lw_okq (⟨"SyscallFilterModel", "has", "(II)Z"⟩, 9) := ⟨⟨by decide +kernel, by decide +kernel⟩, List.mem_of_getElem? (i := 236) (by decide +kernel), List.mem_of_getElem? (i := 346) (by decide +kernel), List.mem_of_getElem? (i := 347) (by decide +kernel)⟩
theorem lw_p23 : lw_okq (⟨"SyscallFilterModel", "met", "(I)Z"⟩, 9) := ⟨⟨by decide +kernel, by decide +kernel⟩, List.mem_of_getElem? (i := 236) (by decide +kernel), List.mem_of_getElem? (i := 350) (by decide +kernel), List.mem_of_getElem? (i := 351) (by decide +kernel)⟩
theorem lw_p24 : lw_okq (⟨"SyscallFilterModel", "shadowed", "(II)Z"⟩, 9) := ⟨⟨by decide +kernel, by decide +kernel⟩, List.mem_of_getElem? (i := 236) (by decide +kernel), List.mem_of_getElem? (i := 374) (by decide +kernel), List.mem_of_getElem? (i := 375) (by decide +kernel)⟩
def lw_privs_2 : List (MethodName × Nat) := [(⟨"SyscallFilterModel", "copy", "(II)V"⟩, 9), (⟨"SyscallFilterModel", "badRule", "(I)Z"⟩, 9), (⟨"SyscallFilterModel", "takeOut", "(I)V"⟩, 9), (⟨"SyscallFilterModel", "verdict", "(I)I"⟩, 9), (⟨"SyscallFilterModel", "firstMatch", "(I)I"⟩, 9), (⟨"SyscallFilterModel", "matches", "(II)Z"⟩, 9), (⟨"SyscallFilterModel", "has", "(II)Z"⟩, 9), (⟨"SyscallFilterModel", "met", "(I)Z"⟩, 9), (⟨"SyscallFilterModel", "shadowed", "(II)Z"⟩, 9)]
theorem lw_r2 : ∀ q ∈ lw_privs_2, lw_okq q := List.forall_mem_cons.mpr ⟨lw_p16, List.forall_mem_cons.mpr ⟨lw_p17, List.forall_mem_cons.mpr ⟨lw_p18, List.forall_mem_cons.mpr ⟨lw_p19, List.forall_mem_cons.mpr ⟨lw_p20, List.forall_mem_cons.mpr ⟨lw_p21, List.forall_mem_cons.mpr ⟨lw_p22, List.forall_mem_cons.mpr ⟨lw_p23, List.forall_mem_cons.mpr ⟨lw_p24, fun _ h => absurd h List.not_mem_nil⟩⟩⟩⟩⟩⟩⟩⟩⟩
def lw_privs : List (MethodName × Nat) := lw_privs_1 ++ (lw_privs_2)
def lw_tbl : List Cond := k2_sels lw_privs ++ tables_1
theorem lw_privs_ok : ∀ q ∈ lw_privs, lw_okq q := by
  show ∀ q ∈ lw_privs_1 ++ (lw_privs_2), lw_okq q
  exact List.forall_mem_append.mpr ⟨lw_r1, lw_r2⟩
end
section
-- names, by names.py
def R_law : String := "SyscallFilterLaw"
def R_X : String := "SyscallFilter"
def F_X : u_T := fun k => match k with
  | 0 => ("SyscallFilter", "firsts", "[I", true)
  | 1 => ("SyscallFilter", "lasts", "[I", true)
  | 2 => ("SyscallFilter", "whats", "[I", true)
  | 3 => ("SyscallFilter", "masks", "[I", true)
  | 4 => ("SyscallFilter", "values", "[I", true)
  | 5 => ("SyscallFilter", "actions", "[I", true)
  | 6 => ("SyscallFilter", "low", "[I", true)
  | 7 => ("SyscallFilter", "high", "[I", true)
  | 8 => ("SyscallFilter", "outside", "[Z", true)
  | 9 => ("SyscallFilter", "having", "[I", true)
  | 10 => ("SyscallFilter", "begin", "[I", true)
  | 11 => ("SyscallFilter", "chain", "[I", true)
  | 12 => ("SyscallFilter", "testRule", "[I", true)
  | 13 => ("SyscallFilter", "testElse", "[I", true)
  | 14 => ("SyscallFilter", "pivot", "[I", true)
  | 15 => ("SyscallFilter", "leftChild", "[I", true)
  | 16 => ("SyscallFilter", "rightChild", "[I", true)
  | 17 => ("SyscallFilter", "workLow", "[I", true)
  | 18 => ("SyscallFilter", "workHigh", "[I", true)
  | 19 => ("SyscallFilter", "arguments", "[I", true)
  | 20 => ("SyscallFilter", "draftFirst", "I", false)
  | 21 => ("SyscallFilter", "draftLast", "I", false)
  | 22 => ("SyscallFilter", "draftWhat", "[I", true)
  | 23 => ("SyscallFilter", "draftMask", "[I", true)
  | 24 => ("SyscallFilter", "draftValue", "[I", true)
  | 25 => ("SyscallFilter", "count", "I", false)
  | 26 => ("SyscallFilter", "standard", "I", false)
  | 27 => ("SyscallFilter", "plain", "I", false)
  | 28 => ("SyscallFilter", "stretchCount", "I", false)
  | 29 => ("SyscallFilter", "tests", "I", false)
  | _ => ("SyscallFilter", "compiled", "Z", false)
def t_X : Nat → FieldType := fun k => match k with
  | 0 => .array .int
  | 1 => .array .int
  | 2 => .array .int
  | 3 => .array .int
  | 4 => .array .int
  | 5 => .array .int
  | 6 => .array .int
  | 7 => .array .int
  | 8 => .array .boolean
  | 9 => .array .int
  | 10 => .array .int
  | 11 => .array .int
  | 12 => .array .int
  | 13 => .array .int
  | 14 => .array .int
  | 15 => .array .int
  | 16 => .array .int
  | 17 => .array .int
  | 18 => .array .int
  | 19 => .array .int
  | 20 => .int
  | 21 => .int
  | 22 => .array .int
  | 23 => .array .int
  | 24 => .array .int
  | 25 => .int
  | 26 => .int
  | 27 => .int
  | 28 => .int
  | 29 => .int
  | _ => .boolean
def tb_X : List (Option Nat) := [some 13, some 13, some 26, some 26, some 26, some 13, some 24, some 24, some 24, some 32, some 33, some 32, some 400, some 400, some 64, some 64, some 64, some 64, some 64, some 2, none, none, some 2, some 2, some 2, none, none, none, none, none, none]
theorem n_X : ∀ a, a < 31 → ∀ b, b < 31 → a ≠ b → (F_X a).2.1 ≠ (F_X b).2.1 := by decide +kernel
theorem t_X_ok : ∀ k, k < 31 → parseFieldDescriptor (F_X k).2.2.1 = some (t_X k) := by decide +kernel
def R_M : String := "SyscallFilterModel"
def F_M : u_T := fun k => match k with
  | 0 => ("SyscallFilterModel", "first", "[I", false)
  | 1 => ("SyscallFilterModel", "last", "[I", false)
  | 2 => ("SyscallFilterModel", "action", "[I", false)
  | 3 => ("SyscallFilterModel", "what", "[I", false)
  | 4 => ("SyscallFilterModel", "mask", "[I", false)
  | 5 => ("SyscallFilterModel", "value", "[I", false)
  | 6 => ("SyscallFilterModel", "rules", "I", false)
  | 7 => ("SyscallFilterModel", "other", "I", false)
  | _ => ("SyscallFilterModel", "argument", "[I", false)
def t_M : Nat → FieldType := fun k => match k with
  | 0 => .array .int
  | 1 => .array .int
  | 2 => .array .int
  | 3 => .array .int
  | 4 => .array .int
  | 5 => .array .int
  | 6 => .int
  | 7 => .int
  | _ => .array .int
def tb_M : List (Option Nat) := [some 14, some 14, some 14, some 28, some 28, some 28, none, none, some 2]
theorem n_M : ∀ a, a < 9 → ∀ b, b < 9 → a ≠ b → (F_M a).2.1 ≠ (F_M b).2.1 := by decide +kernel
theorem t_M_ok : ∀ k, k < 9 → parseFieldDescriptor (F_M k).2.2.1 = some (t_M k) := by decide +kernel
abbrev classes : List vw_C := [(R_X, F_X, 31), (R_M, F_M, 9)]
def tW : List Cond := lw_tbl.filter goodWord
theorem tW_mem {w : Cond} (h : w ∈ lw_tbl) (hg : goodWord w = true) : w ∈ tW := List.mem_filter.mpr ⟨h, hg⟩
theorem t0_mem {w : Cond} {i : Nat} (h : (k2_sels lw_privs)[i]? = some w) (hg : goodWord w = true) : w ∈ tW := tW_mem (List.mem_append_left _ (List.mem_of_getElem? h)) hg
theorem t1_mem {w : Cond} {i : Nat} (h : tables_1_1[i]? = some w) (hg : goodWord w = true) : w ∈ tW := tW_mem (List.mem_append_right _ (List.mem_append_left _ (List.mem_of_getElem? h))) hg
theorem t2_mem {w : Cond} {i : Nat} (h : tables_1_2[i]? = some w) (hg : goodWord w = true) : w ∈ tW := tW_mem (List.mem_append_right _ (List.mem_append_right _ (List.mem_of_getElem? h))) hg
theorem gd_tW : GoodIn tW tW := fun w h => ⟨h, good_of_word (List.mem_filter.mp h).2⟩
theorem gd_cons {w : Cond} (h : w ∈ tW) : GoodIn tW (w :: tW) := fun v hv => (List.mem_cons.mp hv).elim (fun e => e ▸ gd_tW w h) (fun h2 => gd_tW v h2)
set_option maxRecDepth 20000 in
theorem la_X_0 : Cond.laysFinal R_X "SyscallFilter" "firsts" "[I" ∈ tW := t1_mem (i := 42) rfl rfl
set_option maxRecDepth 20000 in
theorem la_X_1 : Cond.laysFinal R_X "SyscallFilter" "lasts" "[I" ∈ tW := t1_mem (i := 44) rfl rfl
set_option maxRecDepth 20000 in
theorem la_X_2 : Cond.laysFinal R_X "SyscallFilter" "whats" "[I" ∈ tW := t1_mem (i := 46) rfl rfl
set_option maxRecDepth 20000 in
theorem la_X_3 : Cond.laysFinal R_X "SyscallFilter" "masks" "[I" ∈ tW := t1_mem (i := 48) rfl rfl
set_option maxRecDepth 20000 in
theorem la_X_4 : Cond.laysFinal R_X "SyscallFilter" "values" "[I" ∈ tW := t1_mem (i := 50) rfl rfl
set_option maxRecDepth 20000 in
theorem la_X_5 : Cond.laysFinal R_X "SyscallFilter" "actions" "[I" ∈ tW := t1_mem (i := 52) rfl rfl
set_option maxRecDepth 20000 in
theorem la_X_6 : Cond.laysFinal R_X "SyscallFilter" "low" "[I" ∈ tW := t1_mem (i := 54) rfl rfl
set_option maxRecDepth 20000 in
theorem la_X_7 : Cond.laysFinal R_X "SyscallFilter" "high" "[I" ∈ tW := t1_mem (i := 56) rfl rfl
set_option maxRecDepth 20000 in
theorem la_X_8 : Cond.laysFinal R_X "SyscallFilter" "outside" "[Z" ∈ tW := t1_mem (i := 58) rfl rfl
set_option maxRecDepth 20000 in
theorem la_X_9 : Cond.laysFinal R_X "SyscallFilter" "having" "[I" ∈ tW := t1_mem (i := 60) rfl rfl
set_option maxRecDepth 20000 in
theorem la_X_10 : Cond.laysFinal R_X "SyscallFilter" "begin" "[I" ∈ tW := t1_mem (i := 62) rfl rfl
set_option maxRecDepth 20000 in
theorem la_X_11 : Cond.laysFinal R_X "SyscallFilter" "chain" "[I" ∈ tW := t1_mem (i := 64) rfl rfl
set_option maxRecDepth 20000 in
theorem la_X_12 : Cond.laysFinal R_X "SyscallFilter" "testRule" "[I" ∈ tW := t1_mem (i := 66) rfl rfl
set_option maxRecDepth 20000 in
theorem la_X_13 : Cond.laysFinal R_X "SyscallFilter" "testElse" "[I" ∈ tW := t1_mem (i := 68) rfl rfl
set_option maxRecDepth 20000 in
theorem la_X_14 : Cond.laysFinal R_X "SyscallFilter" "pivot" "[I" ∈ tW := t1_mem (i := 70) rfl rfl
set_option maxRecDepth 20000 in
theorem la_X_15 : Cond.laysFinal R_X "SyscallFilter" "leftChild" "[I" ∈ tW := t1_mem (i := 72) rfl rfl
set_option maxRecDepth 20000 in
theorem la_X_16 : Cond.laysFinal R_X "SyscallFilter" "rightChild" "[I" ∈ tW := t1_mem (i := 74) rfl rfl
set_option maxRecDepth 20000 in
theorem la_X_17 : Cond.laysFinal R_X "SyscallFilter" "workLow" "[I" ∈ tW := t1_mem (i := 76) rfl rfl
set_option maxRecDepth 20000 in
theorem la_X_18 : Cond.laysFinal R_X "SyscallFilter" "workHigh" "[I" ∈ tW := t1_mem (i := 78) rfl rfl
set_option maxRecDepth 20000 in
theorem la_X_19 : Cond.laysFinal R_X "SyscallFilter" "arguments" "[I" ∈ tW := t1_mem (i := 80) rfl rfl
set_option maxRecDepth 20000 in
theorem la_X_20 : Cond.lays R_X "SyscallFilter" "draftFirst" "I" ∈ tW := t1_mem (i := 82) rfl rfl
set_option maxRecDepth 20000 in
theorem la_X_21 : Cond.lays R_X "SyscallFilter" "draftLast" "I" ∈ tW := t1_mem (i := 84) rfl rfl
set_option maxRecDepth 20000 in
theorem la_X_22 : Cond.laysFinal R_X "SyscallFilter" "draftWhat" "[I" ∈ tW := t1_mem (i := 86) rfl rfl
set_option maxRecDepth 20000 in
theorem la_X_23 : Cond.laysFinal R_X "SyscallFilter" "draftMask" "[I" ∈ tW := t1_mem (i := 88) rfl rfl
set_option maxRecDepth 20000 in
theorem la_X_24 : Cond.laysFinal R_X "SyscallFilter" "draftValue" "[I" ∈ tW := t1_mem (i := 90) rfl rfl
set_option maxRecDepth 20000 in
theorem la_X_25 : Cond.lays R_X "SyscallFilter" "count" "I" ∈ tW := t1_mem (i := 92) rfl rfl
set_option maxRecDepth 20000 in
theorem la_X_26 : Cond.lays R_X "SyscallFilter" "standard" "I" ∈ tW := t1_mem (i := 94) rfl rfl
set_option maxRecDepth 20000 in
theorem la_X_27 : Cond.lays R_X "SyscallFilter" "plain" "I" ∈ tW := t1_mem (i := 96) rfl rfl
set_option maxRecDepth 20000 in
theorem la_X_28 : Cond.lays R_X "SyscallFilter" "stretchCount" "I" ∈ tW := t1_mem (i := 98) rfl rfl
set_option maxRecDepth 20000 in
theorem la_X_29 : Cond.lays R_X "SyscallFilter" "tests" "I" ∈ tW := t1_mem (i := 100) rfl rfl
set_option maxRecDepth 20000 in
theorem la_X_30 : Cond.lays R_X "SyscallFilter" "compiled" "Z" ∈ tW := t1_mem (i := 102) rfl rfl
theorem ly_X : ∀ k, k < 31 → u_lay R_X F_X k ∈ tW
  | 0, _ => la_X_0
  | 1, _ => la_X_1
  | 2, _ => la_X_2
  | 3, _ => la_X_3
  | 4, _ => la_X_4
  | 5, _ => la_X_5
  | 6, _ => la_X_6
  | 7, _ => la_X_7
  | 8, _ => la_X_8
  | 9, _ => la_X_9
  | 10, _ => la_X_10
  | 11, _ => la_X_11
  | 12, _ => la_X_12
  | 13, _ => la_X_13
  | 14, _ => la_X_14
  | 15, _ => la_X_15
  | 16, _ => la_X_16
  | 17, _ => la_X_17
  | 18, _ => la_X_18
  | 19, _ => la_X_19
  | 20, _ => la_X_20
  | 21, _ => la_X_21
  | 22, _ => la_X_22
  | 23, _ => la_X_23
  | 24, _ => la_X_24
  | 25, _ => la_X_25
  | 26, _ => la_X_26
  | 27, _ => la_X_27
  | 28, _ => la_X_28
  | 29, _ => la_X_29
  | 30, _ => la_X_30
  | n + 31, h => absurd h (by omega)
theorem i_X : ∀ w ∈ u_ws R_X F_X 31, w ∈ tW := fun w hw => by
  obtain ⟨k, hk, rfl⟩ := List.mem_map.mp hw
  exact ly_X k (List.mem_range.mp hk)
set_option maxRecDepth 20000 in
theorem fw_X_0 : Cond.fieldLink R_X 7 R_X "firsts" "[I" ∈ tW := t1_mem (i := 11) rfl rfl
set_option maxRecDepth 20000 in
theorem fw_X_1 : Cond.fieldLink R_X 13 R_X "lasts" "[I" ∈ tW := t1_mem (i := 12) rfl rfl
set_option maxRecDepth 20000 in
theorem fw_X_2 : Cond.fieldLink R_X 16 R_X "whats" "[I" ∈ tW := t1_mem (i := 13) rfl rfl
set_option maxRecDepth 20000 in
theorem fw_X_3 : Cond.fieldLink R_X 19 R_X "masks" "[I" ∈ tW := t1_mem (i := 14) rfl rfl
set_option maxRecDepth 20000 in
theorem fw_X_4 : Cond.fieldLink R_X 22 R_X "values" "[I" ∈ tW := t1_mem (i := 15) rfl rfl
set_option maxRecDepth 20000 in
theorem fw_X_5 : Cond.fieldLink R_X 25 R_X "actions" "[I" ∈ tW := t1_mem (i := 16) rfl rfl
set_option maxRecDepth 20000 in
theorem fw_X_6 : Cond.fieldLink R_X 28 R_X "low" "[I" ∈ tW := t1_mem (i := 17) rfl rfl
set_option maxRecDepth 20000 in
theorem fw_X_7 : Cond.fieldLink R_X 31 R_X "high" "[I" ∈ tW := t1_mem (i := 18) rfl rfl
set_option maxRecDepth 20000 in
theorem fw_X_8 : Cond.fieldLink R_X 34 R_X "outside" "[Z" ∈ tW := t1_mem (i := 19) rfl rfl
set_option maxRecDepth 20000 in
theorem fw_X_9 : Cond.fieldLink R_X 38 R_X "having" "[I" ∈ tW := t1_mem (i := 20) rfl rfl
set_option maxRecDepth 20000 in
theorem fw_X_10 : Cond.fieldLink R_X 41 R_X "begin" "[I" ∈ tW := t1_mem (i := 21) rfl rfl
set_option maxRecDepth 20000 in
theorem fw_X_11 : Cond.fieldLink R_X 44 R_X "chain" "[I" ∈ tW := t1_mem (i := 22) rfl rfl
set_option maxRecDepth 20000 in
theorem fw_X_12 : Cond.fieldLink R_X 47 R_X "testRule" "[I" ∈ tW := t1_mem (i := 23) rfl rfl
set_option maxRecDepth 20000 in
theorem fw_X_13 : Cond.fieldLink R_X 50 R_X "testElse" "[I" ∈ tW := t1_mem (i := 24) rfl rfl
set_option maxRecDepth 20000 in
theorem fw_X_14 : Cond.fieldLink R_X 53 R_X "pivot" "[I" ∈ tW := t1_mem (i := 25) rfl rfl
set_option maxRecDepth 20000 in
theorem fw_X_15 : Cond.fieldLink R_X 56 R_X "leftChild" "[I" ∈ tW := t1_mem (i := 26) rfl rfl
set_option maxRecDepth 20000 in
theorem fw_X_16 : Cond.fieldLink R_X 59 R_X "rightChild" "[I" ∈ tW := t1_mem (i := 27) rfl rfl
set_option maxRecDepth 20000 in
theorem fw_X_17 : Cond.fieldLink R_X 62 R_X "workLow" "[I" ∈ tW := t1_mem (i := 28) rfl rfl
set_option maxRecDepth 20000 in
theorem fw_X_18 : Cond.fieldLink R_X 65 R_X "workHigh" "[I" ∈ tW := t1_mem (i := 29) rfl rfl
set_option maxRecDepth 20000 in
theorem fw_X_19 : Cond.fieldLink R_X 68 R_X "arguments" "[I" ∈ tW := t1_mem (i := 30) rfl rfl
set_option maxRecDepth 20000 in
theorem fw_X_20 : Cond.fieldLink R_X 88 R_X "draftFirst" "I" ∈ tW := t1_mem (i := 31) rfl rfl
set_option maxRecDepth 20000 in
theorem fw_X_21 : Cond.fieldLink R_X 80 R_X "draftLast" "I" ∈ tW := t1_mem (i := 32) rfl rfl
set_option maxRecDepth 20000 in
theorem fw_X_22 : Cond.fieldLink R_X 71 R_X "draftWhat" "[I" ∈ tW := t1_mem (i := 33) rfl rfl
set_option maxRecDepth 20000 in
theorem fw_X_23 : Cond.fieldLink R_X 74 R_X "draftMask" "[I" ∈ tW := t1_mem (i := 34) rfl rfl
set_option maxRecDepth 20000 in
theorem fw_X_24 : Cond.fieldLink R_X 77 R_X "draftValue" "[I" ∈ tW := t1_mem (i := 35) rfl rfl
set_option maxRecDepth 20000 in
theorem fw_X_25 : Cond.fieldLink R_X 91 R_X "count" "I" ∈ tW := t1_mem (i := 36) rfl rfl
set_option maxRecDepth 20000 in
theorem fw_X_26 : Cond.fieldLink R_X 108 R_X "standard" "I" ∈ tW := t1_mem (i := 37) rfl rfl
set_option maxRecDepth 20000 in
theorem fw_X_27 : Cond.fieldLink R_X 130 R_X "plain" "I" ∈ tW := t1_mem (i := 38) rfl rfl
set_option maxRecDepth 20000 in
theorem fw_X_28 : Cond.fieldLink R_X 124 R_X "stretchCount" "I" ∈ tW := t1_mem (i := 39) rfl rfl
set_option maxRecDepth 20000 in
theorem fw_X_29 : Cond.fieldLink R_X 140 R_X "tests" "I" ∈ tW := t1_mem (i := 40) rfl rfl
set_option maxRecDepth 20000 in
theorem fw_X_30 : Cond.fieldLink R_X 101 R_X "compiled" "Z" ∈ tW := t1_mem (i := 41) rfl rfl
set_option maxRecDepth 20000 in
theorem iz_X : Cond.initialized R_X ∈ tW := t1_mem (i := 1) rfl rfl
set_option maxRecDepth 20000 in
theorem in_X : Cond.instantiable R_X 31 ∈ tW := t1_mem (i := 4) rfl rfl
set_option maxRecDepth 20000 in
theorem cl_X : Cond.classLink R_law 7 R_X ∈ tW := t1_mem (i := 3) rfl rfl
set_option maxRecDepth 20000 in
theorem la_M_0 : Cond.lays R_M "SyscallFilterModel" "first" "[I" ∈ tW := t2_mem (i := 10) rfl rfl
set_option maxRecDepth 20000 in
theorem la_M_1 : Cond.lays R_M "SyscallFilterModel" "last" "[I" ∈ tW := t2_mem (i := 12) rfl rfl
set_option maxRecDepth 20000 in
theorem la_M_2 : Cond.lays R_M "SyscallFilterModel" "action" "[I" ∈ tW := t2_mem (i := 14) rfl rfl
set_option maxRecDepth 20000 in
theorem la_M_3 : Cond.lays R_M "SyscallFilterModel" "what" "[I" ∈ tW := t2_mem (i := 16) rfl rfl
set_option maxRecDepth 20000 in
theorem la_M_4 : Cond.lays R_M "SyscallFilterModel" "mask" "[I" ∈ tW := t2_mem (i := 18) rfl rfl
set_option maxRecDepth 20000 in
theorem la_M_5 : Cond.lays R_M "SyscallFilterModel" "value" "[I" ∈ tW := t2_mem (i := 20) rfl rfl
set_option maxRecDepth 20000 in
theorem la_M_6 : Cond.lays R_M "SyscallFilterModel" "rules" "I" ∈ tW := t2_mem (i := 22) rfl rfl
set_option maxRecDepth 20000 in
theorem la_M_7 : Cond.lays R_M "SyscallFilterModel" "other" "I" ∈ tW := t2_mem (i := 24) rfl rfl
set_option maxRecDepth 20000 in
theorem la_M_8 : Cond.lays R_M "SyscallFilterModel" "argument" "[I" ∈ tW := t2_mem (i := 26) rfl rfl
theorem ly_M : ∀ k, k < 9 → u_lay R_M F_M k ∈ tW
  | 0, _ => la_M_0
  | 1, _ => la_M_1
  | 2, _ => la_M_2
  | 3, _ => la_M_3
  | 4, _ => la_M_4
  | 5, _ => la_M_5
  | 6, _ => la_M_6
  | 7, _ => la_M_7
  | 8, _ => la_M_8
  | n + 9, h => absurd h (by omega)
theorem i_M : ∀ w ∈ u_ws R_M F_M 9, w ∈ tW := fun w hw => by
  obtain ⟨k, hk, rfl⟩ := List.mem_map.mp hw
  exact ly_M k (List.mem_range.mp hk)
set_option maxRecDepth 20000 in
theorem fw_M_0 : Cond.fieldLink R_M 7 R_M "first" "[I" ∈ tW := t2_mem (i := 1) rfl rfl
set_option maxRecDepth 20000 in
theorem fw_M_1 : Cond.fieldLink R_M 13 R_M "last" "[I" ∈ tW := t2_mem (i := 2) rfl rfl
set_option maxRecDepth 20000 in
theorem fw_M_2 : Cond.fieldLink R_M 16 R_M "action" "[I" ∈ tW := t2_mem (i := 3) rfl rfl
set_option maxRecDepth 20000 in
theorem fw_M_3 : Cond.fieldLink R_M 19 R_M "what" "[I" ∈ tW := t2_mem (i := 4) rfl rfl
set_option maxRecDepth 20000 in
theorem fw_M_4 : Cond.fieldLink R_M 22 R_M "mask" "[I" ∈ tW := t2_mem (i := 5) rfl rfl
set_option maxRecDepth 20000 in
theorem fw_M_5 : Cond.fieldLink R_M 25 R_M "value" "[I" ∈ tW := t2_mem (i := 6) rfl rfl
set_option maxRecDepth 20000 in
theorem fw_M_6 : Cond.fieldLink R_M 31 R_M "rules" "I" ∈ tW := t2_mem (i := 7) rfl rfl
set_option maxRecDepth 20000 in
theorem fw_M_7 : Cond.fieldLink R_M 56 R_M "other" "I" ∈ tW := t2_mem (i := 8) rfl rfl
set_option maxRecDepth 20000 in
theorem fw_M_8 : Cond.fieldLink R_M 28 R_M "argument" "[I" ∈ tW := t2_mem (i := 9) rfl rfl
set_option maxRecDepth 20000 in
theorem iz_M : Cond.initialized R_M ∈ tW := t1_mem (i := 2) rfl rfl
set_option maxRecDepth 20000 in
theorem in_M : Cond.instantiable R_M 9 ∈ tW := t1_mem (i := 236) rfl rfl
set_option maxRecDepth 20000 in
theorem cl_M : Cond.classLink R_law 10 R_M ∈ tW := t1_mem (i := 235) rfl rfl
set_option maxRecDepth 20000 in
theorem ar_int : Cond.arrayClass .int ∈ tW := t1_mem (i := 105) rfl rfl
set_option maxRecDepth 20000 in
theorem ar_bool : Cond.arrayClass .boolean ∈ tW := t1_mem (i := 106) rfl rfl
set_option maxRecDepth 20000 in
theorem kc_least : Cond.constant R_X 149 (-2147483648 : Int32) ∈ tW := t1_mem (i := 169) rfl rfl
set_option maxRecDepth 20000 in
theorem kc_most : Cond.constant R_X 150 (2147483647 : Int32) ∈ tW := t1_mem (i := 170) rfl rfl
set_option maxRecDepth 20000 in
theorem oi_inst : Cond.instanceMethod objectInit ∈ tW := t1_mem (i := 9) rfl rfl
set_option maxRecDepth 20000 in
theorem oi_code : Cond.code objectInit ⟨#[0xb1]⟩ 1 none ∈ tW := t1_mem (i := 10) rfl rfl
set_option maxRecDepth 20000 in
theorem oi_X : Cond.methodLink R_X 1 objectInit ∈ tW := t1_mem (i := 8) rfl rfl
set_option maxRecDepth 20000 in
theorem oi_M : Cond.methodLink R_M 1 objectInit ∈ tW := t2_mem (i := 0) rfl rfl
end
section
-- methods: bytes, names, link rows, by names.py
/-- what a call of y through the entry idx of own asks of the tables -/
def gLk (C own : String) (idx : Nat) (y : MethodName) (cc : ByteArray) (nL : Nat) (ret : Option FieldType) (n : Nat) : Prop := y.cls = C ∧ Cond.code y cc nL ret ∈ tW ∧ Cond.methodLink own idx y ∈ tW ∧ Cond.instanceMethod y ∈ tW ∧ Cond.selects C y y ∈ tW ∧ Cond.initialized C ∈ tW ∧ (C ≠ "java/lang/invoke/MethodHandle" ∧ C ≠ "java/lang/invoke/VarHandle") ∧ (parseMethodDescriptor y.desc).map (fun d => d.parameters.length) = some n
def gLs (own : String) (idx : Nat) (y : MethodName) (cc : ByteArray) (nL : Nat) (ret : Option FieldType) (n : Nat) : Prop := Cond.code y cc nL ret ∈ tW ∧ Cond.methodLink own idx y ∈ tW ∧ Cond.static y ∈ tW ∧ Cond.initialized y.cls ∈ tW ∧ (y.cls ≠ "java/lang/invoke/MethodHandle" ∧ y.cls ≠ "java/lang/invoke/VarHandle") ∧ (parseMethodDescriptor y.desc).map (fun d => d.parameters.length) = some n
abbrev b_X_init : ByteArray := prog_1_method_1_code
def y_X_init : MethodName := ⟨R_X, "<init>", "()V"⟩
set_option maxRecDepth 20000 in
theorem kw_X_init : Cond.code y_X_init b_X_init 1 (none) ∈ tW := t1_mem (i := 7) rfl rfl
set_option maxRecDepth 20000 in
theorem ki_X_init : Cond.methodLink R_law 9 y_X_init ∈ tW := t1_mem (i := 5) rfl rfl
set_option maxRecDepth 20000 in
theorem kj_X_init : Cond.instanceMethod y_X_init ∈ tW := t1_mem (i := 6) rfl rfl
abbrev b_X_range : ByteArray := prog_1_method_2_code
def y_X_range : MethodName := ⟨R_X, "range", "(II)I"⟩
set_option maxRecDepth 20000 in
theorem kw_X_range : Cond.code y_X_range b_X_range 3 (some .int) ∈ tW := t1_mem (i := 110) rfl rfl
set_option maxRecDepth 20000 in
theorem k_law_X_range : gLk R_X R_law 13 y_X_range b_X_range 3 (some .int) 2 := ⟨rfl, kw_X_range, t1_mem (i := 107) rfl rfl, t1_mem (i := 108) rfl rfl, t1_mem (i := 109) rfl rfl, iz_X, ⟨by decide +kernel, by decide +kernel⟩, by decide +kernel⟩
abbrev b_X_condition : ByteArray := prog_1_method_3_code
def y_X_condition : MethodName := ⟨R_X, "condition", "(IIII)I"⟩
set_option maxRecDepth 20000 in
theorem kw_X_condition : Cond.code y_X_condition b_X_condition 5 (some .int) ∈ tW := t1_mem (i := 117) rfl rfl
set_option maxRecDepth 20000 in
theorem k_law_X_condition : gLk R_X R_law 18 y_X_condition b_X_condition 5 (some .int) 4 := ⟨rfl, kw_X_condition, t1_mem (i := 114) rfl rfl, t1_mem (i := 115) rfl rfl, t1_mem (i := 116) rfl rfl, iz_X, ⟨by decide +kernel, by decide +kernel⟩, by decide +kernel⟩
abbrev b_X_put : ByteArray := prog_1_method_4_code
def y_X_put : MethodName := ⟨R_X, "put", "(II)I"⟩
set_option maxRecDepth 20000 in
theorem kw_X_put : Cond.code y_X_put b_X_put 4 (some .int) ∈ tW := t1_mem (i := 121) rfl rfl
set_option maxRecDepth 20000 in
theorem k_law_X_put : gLk R_X R_law 23 y_X_put b_X_put 4 (some .int) 2 := ⟨rfl, kw_X_put, t1_mem (i := 118) rfl rfl, t1_mem (i := 119) rfl rfl, t1_mem (i := 120) rfl rfl, iz_X, ⟨by decide +kernel, by decide +kernel⟩, by decide +kernel⟩
abbrev b_X_remove : ByteArray := prog_1_method_5_code
def y_X_remove : MethodName := ⟨R_X, "remove", "(I)I"⟩
set_option maxRecDepth 20000 in
theorem kw_X_remove : Cond.code y_X_remove b_X_remove 4 (some .int) ∈ tW := t1_mem (i := 132) rfl rfl
set_option maxRecDepth 20000 in
theorem k_law_X_remove : gLk R_X R_law 27 y_X_remove b_X_remove 4 (some .int) 1 := ⟨rfl, kw_X_remove, t1_mem (i := 129) rfl rfl, t1_mem (i := 130) rfl rfl, t1_mem (i := 131) rfl rfl, iz_X, ⟨by decide +kernel, by decide +kernel⟩, by decide +kernel⟩
abbrev b_X_move : ByteArray := prog_1_method_6_code
def y_X_move : MethodName := ⟨R_X, "move", "(II)I"⟩
set_option maxRecDepth 20000 in
theorem kw_X_move : Cond.code y_X_move b_X_move 4 (some .int) ∈ tW := t1_mem (i := 140) rfl rfl
set_option maxRecDepth 20000 in
theorem k_law_X_move : gLk R_X R_law 32 y_X_move b_X_move 4 (some .int) 2 := ⟨rfl, kw_X_move, t1_mem (i := 137) rfl rfl, t1_mem (i := 138) rfl rfl, t1_mem (i := 139) rfl rfl, iz_X, ⟨by decide +kernel, by decide +kernel⟩, by decide +kernel⟩
abbrev b_X_change : ByteArray := prog_1_method_7_code
def y_X_change : MethodName := ⟨R_X, "change", "(II)I"⟩
set_option maxRecDepth 20000 in
theorem kw_X_change : Cond.code y_X_change b_X_change 4 (some .int) ∈ tW := t1_mem (i := 144) rfl rfl
set_option maxRecDepth 20000 in
theorem k_law_X_change : gLk R_X R_law 36 y_X_change b_X_change 4 (some .int) 2 := ⟨rfl, kw_X_change, t1_mem (i := 141) rfl rfl, t1_mem (i := 142) rfl rfl, t1_mem (i := 143) rfl rfl, iz_X, ⟨by decide +kernel, by decide +kernel⟩, by decide +kernel⟩
abbrev b_X_fallback : ByteArray := prog_1_method_8_code
def y_X_fallback : MethodName := ⟨R_X, "fallback", "(I)I"⟩
set_option maxRecDepth 20000 in
theorem kw_X_fallback : Cond.code y_X_fallback b_X_fallback 3 (some .int) ∈ tW := t1_mem (i := 148) rfl rfl
set_option maxRecDepth 20000 in
theorem k_law_X_fallback : gLk R_X R_law 40 y_X_fallback b_X_fallback 3 (some .int) 1 := ⟨rfl, kw_X_fallback, t1_mem (i := 145) rfl rfl, t1_mem (i := 146) rfl rfl, t1_mem (i := 147) rfl rfl, iz_X, ⟨by decide +kernel, by decide +kernel⟩, by decide +kernel⟩
abbrev b_X_rules : ByteArray := prog_1_method_9_code
def y_X_rules : MethodName := ⟨R_X, "rules", "()I"⟩
set_option maxRecDepth 20000 in
theorem kw_X_rules : Cond.code y_X_rules b_X_rules 1 (some .int) ∈ tW := t1_mem (i := 152) rfl rfl
set_option maxRecDepth 20000 in
theorem k_law_X_rules : gLk R_X R_law 44 y_X_rules b_X_rules 1 (some .int) 0 := ⟨rfl, kw_X_rules, t1_mem (i := 149) rfl rfl, t1_mem (i := 150) rfl rfl, t1_mem (i := 151) rfl rfl, iz_X, ⟨by decide +kernel, by decide +kernel⟩, by decide +kernel⟩
abbrev b_X_argument : ByteArray := prog_1_method_10_code
def y_X_argument : MethodName := ⟨R_X, "argument", "(II)I"⟩
set_option maxRecDepth 20000 in
theorem kw_X_argument : Cond.code y_X_argument b_X_argument 3 (some .int) ∈ tW := t1_mem (i := 156) rfl rfl
set_option maxRecDepth 20000 in
theorem k_law_X_argument : gLk R_X R_law 49 y_X_argument b_X_argument 3 (some .int) 2 := ⟨rfl, kw_X_argument, t1_mem (i := 153) rfl rfl, t1_mem (i := 154) rfl rfl, t1_mem (i := 155) rfl rfl, iz_X, ⟨by decide +kernel, by decide +kernel⟩, by decide +kernel⟩
abbrev b_X_decide : ByteArray := prog_1_method_11_code
def y_X_decide : MethodName := ⟨R_X, "decide", "(I)I"⟩
set_option maxRecDepth 20000 in
theorem kw_X_decide : Cond.code y_X_decide b_X_decide 3 (some .int) ∈ tW := t1_mem (i := 160) rfl rfl
set_option maxRecDepth 20000 in
theorem k_law_X_decide : gLk R_X R_law 53 y_X_decide b_X_decide 3 (some .int) 1 := ⟨rfl, kw_X_decide, t1_mem (i := 157) rfl rfl, t1_mem (i := 158) rfl rfl, t1_mem (i := 159) rfl rfl, iz_X, ⟨by decide +kernel, by decide +kernel⟩, by decide +kernel⟩
abbrev b_X_matched : ByteArray := prog_1_method_12_code
def y_X_matched : MethodName := ⟨R_X, "matched", "(I)I"⟩
set_option maxRecDepth 20000 in
theorem kw_X_matched : Cond.code y_X_matched b_X_matched 4 (some .int) ∈ tW := t1_mem (i := 210) rfl rfl
set_option maxRecDepth 20000 in
theorem k_law_X_matched : gLk R_X R_law 57 y_X_matched b_X_matched 4 (some .int) 1 := ⟨rfl, kw_X_matched, t1_mem (i := 207) rfl rfl, t1_mem (i := 208) rfl rfl, t1_mem (i := 209) rfl rfl, iz_X, ⟨by decide +kernel, by decide +kernel⟩, by decide +kernel⟩
abbrev b_X_countWith : ByteArray := prog_1_method_13_code
def y_X_countWith : MethodName := ⟨R_X, "countWith", "(III)I"⟩
set_option maxRecDepth 20000 in
theorem kw_X_countWith : Cond.code y_X_countWith b_X_countWith 8 (some .int) ∈ tW := t1_mem (i := 214) rfl rfl
set_option maxRecDepth 20000 in
theorem k_law_X_countWith : gLk R_X R_law 61 y_X_countWith b_X_countWith 8 (some .int) 3 := ⟨rfl, kw_X_countWith, t1_mem (i := 211) rfl rfl, t1_mem (i := 212) rfl rfl, t1_mem (i := 213) rfl rfl, iz_X, ⟨by decide +kernel, by decide +kernel⟩, by decide +kernel⟩
abbrev b_X_nextWith : ByteArray := prog_1_method_14_code
def y_X_nextWith : MethodName := ⟨R_X, "nextWith", "(II)I"⟩
set_option maxRecDepth 20000 in
theorem kw_X_nextWith : Cond.code y_X_nextWith b_X_nextWith 5 (some .int) ∈ tW := t1_mem (i := 218) rfl rfl
set_option maxRecDepth 20000 in
theorem k_law_X_nextWith : gLk R_X R_law 66 y_X_nextWith b_X_nextWith 5 (some .int) 2 := ⟨rfl, kw_X_nextWith, t1_mem (i := 215) rfl rfl, t1_mem (i := 216) rfl rfl, t1_mem (i := 217) rfl rfl, iz_X, ⟨by decide +kernel, by decide +kernel⟩, by decide +kernel⟩
abbrev b_X_matching : ByteArray := prog_1_method_15_code
def y_X_matching : MethodName := ⟨R_X, "matching", "(I)I"⟩
set_option maxRecDepth 20000 in
theorem kw_X_matching : Cond.code y_X_matching b_X_matching 4 (some .int) ∈ tW := t1_mem (i := 222) rfl rfl
set_option maxRecDepth 20000 in
theorem k_law_X_matching : gLk R_X R_law 70 y_X_matching b_X_matching 4 (some .int) 1 := ⟨rfl, kw_X_matching, t1_mem (i := 219) rfl rfl, t1_mem (i := 220) rfl rfl, t1_mem (i := 221) rfl rfl, iz_X, ⟨by decide +kernel, by decide +kernel⟩, by decide +kernel⟩
abbrev b_X_hidden : ByteArray := prog_1_method_16_code
def y_X_hidden : MethodName := ⟨R_X, "hidden", "(I)I"⟩
set_option maxRecDepth 20000 in
theorem kw_X_hidden : Cond.code y_X_hidden b_X_hidden 5 (some .int) ∈ tW := t1_mem (i := 226) rfl rfl
set_option maxRecDepth 20000 in
theorem k_law_X_hidden : gLk R_X R_law 74 y_X_hidden b_X_hidden 5 (some .int) 1 := ⟨rfl, kw_X_hidden, t1_mem (i := 223) rfl rfl, t1_mem (i := 224) rfl rfl, t1_mem (i := 225) rfl rfl, iz_X, ⟨by decide +kernel, by decide +kernel⟩, by decide +kernel⟩
abbrev b_X_stretches : ByteArray := prog_1_method_17_code
def y_X_stretches : MethodName := ⟨R_X, "stretches", "()I"⟩
set_option maxRecDepth 20000 in
theorem kw_X_stretches : Cond.code y_X_stretches b_X_stretches 1 (some .int) ∈ tW := t1_mem (i := 230) rfl rfl
set_option maxRecDepth 20000 in
theorem k_law_X_stretches : gLk R_X R_law 78 y_X_stretches b_X_stretches 1 (some .int) 0 := ⟨rfl, kw_X_stretches, t1_mem (i := 227) rfl rfl, t1_mem (i := 228) rfl rfl, t1_mem (i := 229) rfl rfl, iz_X, ⟨by decide +kernel, by decide +kernel⟩, by decide +kernel⟩
abbrev b_X_open : ByteArray := prog_1_method_18_code
def y_X_open : MethodName := ⟨R_X, "open", "()I"⟩
set_option maxRecDepth 20000 in
theorem kw_X_open : Cond.code y_X_open b_X_open 3 (some .int) ∈ tW := t1_mem (i := 234) rfl rfl
set_option maxRecDepth 20000 in
theorem k_law_X_open : gLk R_X R_law 82 y_X_open b_X_open 3 (some .int) 0 := ⟨rfl, kw_X_open, t1_mem (i := 231) rfl rfl, t1_mem (i := 232) rfl rfl, t1_mem (i := 233) rfl rfl, iz_X, ⟨by decide +kernel, by decide +kernel⟩, by decide +kernel⟩
abbrev b_X_isNumber : ByteArray := prog_1_method_19_code
def y_X_isNumber : MethodName := ⟨R_X, "isNumber", "(I)Z"⟩
set_option maxRecDepth 20000 in
theorem kw_X_isNumber : Cond.code y_X_isNumber b_X_isNumber 1 (some .boolean) ∈ tW := t1_mem (i := 113) rfl rfl
set_option maxRecDepth 20000 in
theorem k_X_X_isNumber : gLs R_X 84 y_X_isNumber b_X_isNumber 1 (some .boolean) 1 := ⟨kw_X_isNumber, t1_mem (i := 111) rfl rfl, t1_mem (i := 112) rfl rfl, iz_X, ⟨by decide +kernel, by decide +kernel⟩, by decide +kernel⟩
abbrev b_X_isAction : ByteArray := prog_1_method_20_code
def y_X_isAction : MethodName := ⟨R_X, "isAction", "(I)Z"⟩
set_option maxRecDepth 20000 in
theorem kw_X_isAction : Cond.code y_X_isAction b_X_isAction 1 (some .boolean) ∈ tW := t1_mem (i := 124) rfl rfl
set_option maxRecDepth 20000 in
theorem k_X_X_isAction : gLs R_X 94 y_X_isAction b_X_isAction 1 (some .boolean) 1 := ⟨kw_X_isAction, t1_mem (i := 122) rfl rfl, t1_mem (i := 123) rfl rfl, iz_X, ⟨by decide +kernel, by decide +kernel⟩, by decide +kernel⟩
abbrev b_X_isRule : ByteArray := prog_1_method_21_code
def y_X_isRule : MethodName := ⟨R_X, "isRule", "(I)Z"⟩
set_option maxRecDepth 20000 in
theorem kw_X_isRule : Cond.code y_X_isRule b_X_isRule 2 (some .boolean) ∈ tW := t1_mem (i := 136) rfl rfl
set_option maxRecDepth 20000 in
theorem k_X_X_isRule : gLk R_X R_X 105 y_X_isRule b_X_isRule 2 (some .boolean) 1 := ⟨rfl, kw_X_isRule, t1_mem (i := 133) rfl rfl, t1_mem (i := 135) rfl rfl, t0_mem (i := 1) rfl rfl, iz_X, ⟨by decide +kernel, by decide +kernel⟩, by decide +kernel⟩
abbrev b_X_carry : ByteArray := prog_1_method_22_code
def y_X_carry : MethodName := ⟨R_X, "carry", "(II)V"⟩
set_option maxRecDepth 20000 in
theorem kw_X_carry : Cond.code y_X_carry b_X_carry 4 (none) ∈ tW := t1_mem (i := 128) rfl rfl
set_option maxRecDepth 20000 in
theorem k_X_X_carry : gLk R_X R_X 97 y_X_carry b_X_carry 4 (none) 2 := ⟨rfl, kw_X_carry, t1_mem (i := 125) rfl rfl, t1_mem (i := 127) rfl rfl, t0_mem (i := 0) rfl rfl, iz_X, ⟨by decide +kernel, by decide +kernel⟩, by decide +kernel⟩
abbrev b_X_compile : ByteArray := prog_1_method_23_code
def y_X_compile : MethodName := ⟨R_X, "compile", "()V"⟩
set_option maxRecDepth 20000 in
theorem kw_X_compile : Cond.code y_X_compile b_X_compile 2 (none) ∈ tW := t1_mem (i := 164) rfl rfl
set_option maxRecDepth 20000 in
theorem k_X_X_compile : gLk R_X R_X 111 y_X_compile b_X_compile 2 (none) 0 := ⟨rfl, kw_X_compile, t1_mem (i := 161) rfl rfl, t1_mem (i := 163) rfl rfl, t0_mem (i := 2) rfl rfl, iz_X, ⟨by decide +kernel, by decide +kernel⟩, by decide +kernel⟩
abbrev b_X_normalise : ByteArray := prog_1_method_24_code
def y_X_normalise : MethodName := ⟨R_X, "normalise", "(I)V"⟩
set_option maxRecDepth 20000 in
theorem kw_X_normalise : Cond.code y_X_normalise b_X_normalise 4 (none) ∈ tW := t1_mem (i := 168) rfl rfl
set_option maxRecDepth 20000 in
theorem k_X_X_normalise : gLk R_X R_X 133 y_X_normalise b_X_normalise 4 (none) 1 := ⟨rfl, kw_X_normalise, t1_mem (i := 165) rfl rfl, t1_mem (i := 167) rfl rfl, t0_mem (i := 3) rfl rfl, iz_X, ⟨by decide +kernel, by decide +kernel⟩, by decide +kernel⟩
abbrev b_X_cutStretches : ByteArray := prog_1_method_25_code
def y_X_cutStretches : MethodName := ⟨R_X, "cutStretches", "()V"⟩
set_option maxRecDepth 20000 in
theorem kw_X_cutStretches : Cond.code y_X_cutStretches b_X_cutStretches 3 (none) ∈ tW := t1_mem (i := 174) rfl rfl
set_option maxRecDepth 20000 in
theorem k_X_X_cutStretches : gLk R_X R_X 137 y_X_cutStretches b_X_cutStretches 3 (none) 0 := ⟨rfl, kw_X_cutStretches, t1_mem (i := 171) rfl rfl, t1_mem (i := 173) rfl rfl, t0_mem (i := 4) rfl rfl, iz_X, ⟨by decide +kernel, by decide +kernel⟩, by decide +kernel⟩
abbrev b_X_buildChain : ByteArray := prog_1_method_26_code
def y_X_buildChain : MethodName := ⟨R_X, "buildChain", "(I)I"⟩
set_option maxRecDepth 20000 in
theorem kw_X_buildChain : Cond.code y_X_buildChain b_X_buildChain 7 (some .int) ∈ tW := t1_mem (i := 178) rfl rfl
set_option maxRecDepth 20000 in
theorem k_X_X_buildChain : gLk R_X R_X 143 y_X_buildChain b_X_buildChain 7 (some .int) 1 := ⟨rfl, kw_X_buildChain, t1_mem (i := 175) rfl rfl, t1_mem (i := 177) rfl rfl, t0_mem (i := 5) rfl rfl, iz_X, ⟨by decide +kernel, by decide +kernel⟩, by decide +kernel⟩
abbrev b_X_test : ByteArray := prog_1_method_27_code
def y_X_test : MethodName := ⟨R_X, "test", "(II)I"⟩
set_option maxRecDepth 20000 in
theorem kw_X_test : Cond.code y_X_test b_X_test 4 (some .int) ∈ tW := t1_mem (i := 182) rfl rfl
set_option maxRecDepth 20000 in
theorem k_X_X_test : gLk R_X R_X 151 y_X_test b_X_test 4 (some .int) 2 := ⟨rfl, kw_X_test, t1_mem (i := 179) rfl rfl, t1_mem (i := 181) rfl rfl, t0_mem (i := 6) rfl rfl, iz_X, ⟨by decide +kernel, by decide +kernel⟩, by decide +kernel⟩
abbrev b_X_buildTree : ByteArray := prog_1_method_28_code
def y_X_buildTree : MethodName := ⟨R_X, "buildTree", "()V"⟩
set_option maxRecDepth 20000 in
theorem kw_X_buildTree : Cond.code y_X_buildTree b_X_buildTree 6 (none) ∈ tW := t1_mem (i := 186) rfl rfl
set_option maxRecDepth 20000 in
theorem k_X_X_buildTree : gLk R_X R_X 146 y_X_buildTree b_X_buildTree 6 (none) 0 := ⟨rfl, kw_X_buildTree, t1_mem (i := 183) rfl rfl, t1_mem (i := 185) rfl rfl, t0_mem (i := 7) rfl rfl, iz_X, ⟨by decide +kernel, by decide +kernel⟩, by decide +kernel⟩
abbrev b_X_stretchOf : ByteArray := prog_1_method_29_code
def y_X_stretchOf : MethodName := ⟨R_X, "stretchOf", "(I)I"⟩
set_option maxRecDepth 20000 in
theorem kw_X_stretchOf : Cond.code y_X_stretchOf b_X_stretchOf 4 (some .int) ∈ tW := t1_mem (i := 190) rfl rfl
set_option maxRecDepth 20000 in
theorem k_X_X_stretchOf : gLk R_X R_X 114 y_X_stretchOf b_X_stretchOf 4 (some .int) 1 := ⟨rfl, kw_X_stretchOf, t1_mem (i := 187) rfl rfl, t1_mem (i := 189) rfl rfl, t0_mem (i := 8) rfl rfl, iz_X, ⟨by decide +kernel, by decide +kernel⟩, by decide +kernel⟩
abbrev b_X_meets : ByteArray := prog_1_method_30_code
def y_X_meets : MethodName := ⟨R_X, "meets", "(I)Z"⟩
set_option maxRecDepth 20000 in
theorem kw_X_meets : Cond.code y_X_meets b_X_meets 4 (some .boolean) ∈ tW := t1_mem (i := 206) rfl rfl
set_option maxRecDepth 20000 in
theorem k_X_X_meets : gLk R_X R_X 155 y_X_meets b_X_meets 4 (some .boolean) 1 := ⟨rfl, kw_X_meets, t1_mem (i := 203) rfl rfl, t1_mem (i := 205) rfl rfl, t0_mem (i := 12) rfl rfl, iz_X, ⟨by decide +kernel, by decide +kernel⟩, by decide +kernel⟩
abbrev b_X_holds : ByteArray := prog_1_method_31_code
def y_X_holds : MethodName := ⟨R_X, "holds", "(I)Z"⟩
set_option maxRecDepth 20000 in
theorem kw_X_holds : Cond.code y_X_holds b_X_holds 2 (some .boolean) ∈ tW := t1_mem (i := 202) rfl rfl
set_option maxRecDepth 20000 in
theorem k_X_X_holds : gLk R_X R_X 127 y_X_holds b_X_holds 2 (some .boolean) 1 := ⟨rfl, kw_X_holds, t1_mem (i := 199) rfl rfl, t1_mem (i := 201) rfl rfl, t0_mem (i := 11) rfl rfl, iz_X, ⟨by decide +kernel, by decide +kernel⟩, by decide +kernel⟩
abbrev b_X_follow : ByteArray := prog_1_method_32_code
def y_X_follow : MethodName := ⟨R_X, "follow", "(I)I"⟩
set_option maxRecDepth 20000 in
theorem kw_X_follow : Cond.code y_X_follow b_X_follow 4 (some .int) ∈ tW := t1_mem (i := 198) rfl rfl
set_option maxRecDepth 20000 in
theorem k_X_X_follow : gLk R_X R_X 121 y_X_follow b_X_follow 4 (some .int) 1 := ⟨rfl, kw_X_follow, t1_mem (i := 195) rfl rfl, t1_mem (i := 197) rfl rfl, t0_mem (i := 10) rfl rfl, iz_X, ⟨by decide +kernel, by decide +kernel⟩, by decide +kernel⟩
abbrev b_X_verdict : ByteArray := prog_1_method_33_code
def y_X_verdict : MethodName := ⟨R_X, "verdict", "(I)I"⟩
set_option maxRecDepth 20000 in
theorem kw_X_verdict : Cond.code y_X_verdict b_X_verdict 3 (some .int) ∈ tW := t1_mem (i := 194) rfl rfl
set_option maxRecDepth 20000 in
theorem k_X_X_verdict : gLk R_X R_X 118 y_X_verdict b_X_verdict 3 (some .int) 1 := ⟨rfl, kw_X_verdict, t1_mem (i := 191) rfl rfl, t1_mem (i := 193) rfl rfl, t0_mem (i := 9) rfl rfl, iz_X, ⟨by decide +kernel, by decide +kernel⟩, by decide +kernel⟩
abbrev b_M_init : ByteArray := prog_3_method_1_code
def y_M_init : MethodName := ⟨R_M, "<init>", "()V"⟩
set_option maxRecDepth 20000 in
theorem kw_M_init : Cond.code y_M_init b_M_init 1 (none) ∈ tW := t1_mem (i := 239) rfl rfl
set_option maxRecDepth 20000 in
theorem ki_M_init : Cond.methodLink R_law 12 y_M_init ∈ tW := t1_mem (i := 237) rfl rfl
set_option maxRecDepth 20000 in
theorem kj_M_init : Cond.instanceMethod y_M_init ∈ tW := t1_mem (i := 238) rfl rfl
abbrev b_M_badNumber : ByteArray := prog_3_method_2_code
def y_M_badNumber : MethodName := ⟨R_M, "badNumber", "(I)Z"⟩
set_option maxRecDepth 20000 in
theorem kw_M_badNumber : Cond.code y_M_badNumber b_M_badNumber 2 (some .boolean) ∈ tW := t2_mem (i := 36) rfl rfl
set_option maxRecDepth 20000 in
theorem k_M_M_badNumber : gLk R_M R_M 35 y_M_badNumber b_M_badNumber 2 (some .boolean) 1 := ⟨rfl, kw_M_badNumber, t2_mem (i := 33) rfl rfl, t2_mem (i := 35) rfl rfl, t0_mem (i := 13) rfl rfl, iz_M, ⟨by decide +kernel, by decide +kernel⟩, by decide +kernel⟩
abbrev b_M_badAction : ByteArray := prog_3_method_3_code
def y_M_badAction : MethodName := ⟨R_M, "badAction", "(I)Z"⟩
set_option maxRecDepth 20000 in
theorem kw_M_badAction : Cond.code y_M_badAction b_M_badAction 2 (some .boolean) ∈ tW := t2_mem (i := 48) rfl rfl
set_option maxRecDepth 20000 in
theorem k_M_M_badAction : gLk R_M R_M 43 y_M_badAction b_M_badAction 2 (some .boolean) 1 := ⟨rfl, kw_M_badAction, t2_mem (i := 45) rfl rfl, t2_mem (i := 47) rfl rfl, t0_mem (i := 14) rfl rfl, iz_M, ⟨by decide +kernel, by decide +kernel⟩, by decide +kernel⟩
abbrev b_M_badRule : ByteArray := prog_3_method_4_code
def y_M_badRule : MethodName := ⟨R_M, "badRule", "(I)Z"⟩
set_option maxRecDepth 20000 in
theorem kw_M_badRule : Cond.code y_M_badRule b_M_badRule 2 (some .boolean) ∈ tW := t2_mem (i := 64) rfl rfl
set_option maxRecDepth 20000 in
theorem k_M_M_badRule : gLk R_M R_M 49 y_M_badRule b_M_badRule 2 (some .boolean) 1 := ⟨rfl, kw_M_badRule, t2_mem (i := 61) rfl rfl, t2_mem (i := 63) rfl rfl, t0_mem (i := 17) rfl rfl, iz_M, ⟨by decide +kernel, by decide +kernel⟩, by decide +kernel⟩
abbrev b_M_range : ByteArray := prog_3_method_5_code
def y_M_range : MethodName := ⟨R_M, "range", "(II)I"⟩
set_option maxRecDepth 20000 in
theorem kw_M_range : Cond.code y_M_range b_M_range 3 (some .int) ∈ tW := t2_mem (i := 32) rfl rfl
set_option maxRecDepth 20000 in
theorem k_law_M_range : gLk R_M R_law 17 y_M_range b_M_range 3 (some .int) 2 := ⟨rfl, kw_M_range, t2_mem (i := 29) rfl rfl, t2_mem (i := 30) rfl rfl, t2_mem (i := 31) rfl rfl, iz_M, ⟨by decide +kernel, by decide +kernel⟩, by decide +kernel⟩
abbrev b_M_condition : ByteArray := prog_3_method_6_code
def y_M_condition : MethodName := ⟨R_M, "condition", "(IIII)I"⟩
set_option maxRecDepth 20000 in
theorem kw_M_condition : Cond.code y_M_condition b_M_condition 5 (some .int) ∈ tW := t2_mem (i := 40) rfl rfl
set_option maxRecDepth 20000 in
theorem k_law_M_condition : gLk R_M R_law 22 y_M_condition b_M_condition 5 (some .int) 4 := ⟨rfl, kw_M_condition, t2_mem (i := 37) rfl rfl, t2_mem (i := 38) rfl rfl, t2_mem (i := 39) rfl rfl, iz_M, ⟨by decide +kernel, by decide +kernel⟩, by decide +kernel⟩
abbrev b_M_copy : ByteArray := prog_3_method_7_code
def y_M_copy : MethodName := ⟨R_M, "copy", "(II)V"⟩
set_option maxRecDepth 20000 in
theorem kw_M_copy : Cond.code y_M_copy b_M_copy 4 (none) ∈ tW := t2_mem (i := 56) rfl rfl
set_option maxRecDepth 20000 in
theorem k_M_M_copy : gLk R_M R_M 39 y_M_copy b_M_copy 4 (none) 2 := ⟨rfl, kw_M_copy, t2_mem (i := 53) rfl rfl, t2_mem (i := 55) rfl rfl, t0_mem (i := 16) rfl rfl, iz_M, ⟨by decide +kernel, by decide +kernel⟩, by decide +kernel⟩
abbrev b_M_insert : ByteArray := prog_3_method_8_code
def y_M_insert : MethodName := ⟨R_M, "insert", "(II)V"⟩
set_option maxRecDepth 20000 in
theorem kw_M_insert : Cond.code y_M_insert b_M_insert 4 (none) ∈ tW := t2_mem (i := 52) rfl rfl
set_option maxRecDepth 20000 in
theorem k_M_M_insert : gLk R_M R_M 46 y_M_insert b_M_insert 4 (none) 2 := ⟨rfl, kw_M_insert, t2_mem (i := 49) rfl rfl, t2_mem (i := 51) rfl rfl, t0_mem (i := 15) rfl rfl, iz_M, ⟨by decide +kernel, by decide +kernel⟩, by decide +kernel⟩
abbrev b_M_takeOut : ByteArray := prog_3_method_9_code
def y_M_takeOut : MethodName := ⟨R_M, "takeOut", "(I)V"⟩
set_option maxRecDepth 20000 in
theorem kw_M_takeOut : Cond.code y_M_takeOut b_M_takeOut 3 (none) ∈ tW := t2_mem (i := 68) rfl rfl
set_option maxRecDepth 20000 in
theorem k_M_M_takeOut : gLk R_M R_M 52 y_M_takeOut b_M_takeOut 3 (none) 1 := ⟨rfl, kw_M_takeOut, t2_mem (i := 65) rfl rfl, t2_mem (i := 67) rfl rfl, t0_mem (i := 18) rfl rfl, iz_M, ⟨by decide +kernel, by decide +kernel⟩, by decide +kernel⟩
abbrev b_M_put : ByteArray := prog_3_method_10_code
def y_M_put : MethodName := ⟨R_M, "put", "(II)I"⟩
set_option maxRecDepth 20000 in
theorem kw_M_put : Cond.code y_M_put b_M_put 3 (some .int) ∈ tW := t2_mem (i := 44) rfl rfl
set_option maxRecDepth 20000 in
theorem k_law_M_put : gLk R_M R_law 26 y_M_put b_M_put 3 (some .int) 2 := ⟨rfl, kw_M_put, t2_mem (i := 41) rfl rfl, t2_mem (i := 42) rfl rfl, t2_mem (i := 43) rfl rfl, iz_M, ⟨by decide +kernel, by decide +kernel⟩, by decide +kernel⟩
abbrev b_M_remove : ByteArray := prog_3_method_11_code
def y_M_remove : MethodName := ⟨R_M, "remove", "(I)I"⟩
set_option maxRecDepth 20000 in
theorem kw_M_remove : Cond.code y_M_remove b_M_remove 3 (some .int) ∈ tW := t2_mem (i := 60) rfl rfl
set_option maxRecDepth 20000 in
theorem k_law_M_remove : gLk R_M R_law 31 y_M_remove b_M_remove 3 (some .int) 1 := ⟨rfl, kw_M_remove, t2_mem (i := 57) rfl rfl, t2_mem (i := 58) rfl rfl, t2_mem (i := 59) rfl rfl, iz_M, ⟨by decide +kernel, by decide +kernel⟩, by decide +kernel⟩
abbrev b_M_move : ByteArray := prog_3_method_12_code
def y_M_move : MethodName := ⟨R_M, "move", "(II)I"⟩
set_option maxRecDepth 20000 in
theorem kw_M_move : Cond.code y_M_move b_M_move 3 (some .int) ∈ tW := t2_mem (i := 72) rfl rfl
set_option maxRecDepth 20000 in
theorem k_law_M_move : gLk R_M R_law 35 y_M_move b_M_move 3 (some .int) 2 := ⟨rfl, kw_M_move, t2_mem (i := 69) rfl rfl, t2_mem (i := 70) rfl rfl, t2_mem (i := 71) rfl rfl, iz_M, ⟨by decide +kernel, by decide +kernel⟩, by decide +kernel⟩
abbrev b_M_change : ByteArray := prog_3_method_13_code
def y_M_change : MethodName := ⟨R_M, "change", "(II)I"⟩
set_option maxRecDepth 20000 in
theorem kw_M_change : Cond.code y_M_change b_M_change 4 (some .int) ∈ tW := t2_mem (i := 76) rfl rfl
set_option maxRecDepth 20000 in
theorem k_law_M_change : gLk R_M R_law 39 y_M_change b_M_change 4 (some .int) 2 := ⟨rfl, kw_M_change, t2_mem (i := 73) rfl rfl, t2_mem (i := 74) rfl rfl, t2_mem (i := 75) rfl rfl, iz_M, ⟨by decide +kernel, by decide +kernel⟩, by decide +kernel⟩
abbrev b_M_fallback : ByteArray := prog_3_method_14_code
def y_M_fallback : MethodName := ⟨R_M, "fallback", "(I)I"⟩
set_option maxRecDepth 20000 in
theorem kw_M_fallback : Cond.code y_M_fallback b_M_fallback 3 (some .int) ∈ tW := t2_mem (i := 80) rfl rfl
set_option maxRecDepth 20000 in
theorem k_law_M_fallback : gLk R_M R_law 43 y_M_fallback b_M_fallback 3 (some .int) 1 := ⟨rfl, kw_M_fallback, t2_mem (i := 77) rfl rfl, t2_mem (i := 78) rfl rfl, t2_mem (i := 79) rfl rfl, iz_M, ⟨by decide +kernel, by decide +kernel⟩, by decide +kernel⟩
abbrev b_M_rules : ByteArray := prog_3_method_15_code
def y_M_rules : MethodName := ⟨R_M, "rules", "()I"⟩
set_option maxRecDepth 20000 in
theorem kw_M_rules : Cond.code y_M_rules b_M_rules 1 (some .int) ∈ tW := t2_mem (i := 84) rfl rfl
set_option maxRecDepth 20000 in
theorem k_law_M_rules : gLk R_M R_law 48 y_M_rules b_M_rules 1 (some .int) 0 := ⟨rfl, kw_M_rules, t2_mem (i := 81) rfl rfl, t2_mem (i := 82) rfl rfl, t2_mem (i := 83) rfl rfl, iz_M, ⟨by decide +kernel, by decide +kernel⟩, by decide +kernel⟩
abbrev b_M_argument : ByteArray := prog_3_method_16_code
def y_M_argument : MethodName := ⟨R_M, "argument", "(II)I"⟩
set_option maxRecDepth 20000 in
theorem kw_M_argument : Cond.code y_M_argument b_M_argument 3 (some .int) ∈ tW := t2_mem (i := 88) rfl rfl
set_option maxRecDepth 20000 in
theorem k_law_M_argument : gLk R_M R_law 52 y_M_argument b_M_argument 3 (some .int) 2 := ⟨rfl, kw_M_argument, t2_mem (i := 85) rfl rfl, t2_mem (i := 86) rfl rfl, t2_mem (i := 87) rfl rfl, iz_M, ⟨by decide +kernel, by decide +kernel⟩, by decide +kernel⟩
abbrev b_M_met : ByteArray := prog_3_method_17_code
def y_M_met : MethodName := ⟨R_M, "met", "(I)Z"⟩
set_option maxRecDepth 20000 in
theorem kw_M_met : Cond.code y_M_met b_M_met 5 (some .boolean) ∈ tW := t2_mem (i := 112) rfl rfl
set_option maxRecDepth 20000 in
theorem k_M_M_met : gLk R_M R_M 63 y_M_met b_M_met 5 (some .boolean) 1 := ⟨rfl, kw_M_met, t2_mem (i := 109) rfl rfl, t2_mem (i := 111) rfl rfl, t0_mem (i := 23) rfl rfl, iz_M, ⟨by decide +kernel, by decide +kernel⟩, by decide +kernel⟩
abbrev b_M_has : ByteArray := prog_3_method_18_code
def y_M_has : MethodName := ⟨R_M, "has", "(II)Z"⟩
set_option maxRecDepth 20000 in
theorem kw_M_has : Cond.code y_M_has b_M_has 3 (some .boolean) ∈ tW := t2_mem (i := 108) rfl rfl
set_option maxRecDepth 20000 in
theorem k_M_M_has : gLk R_M R_M 59 y_M_has b_M_has 3 (some .boolean) 2 := ⟨rfl, kw_M_has, t2_mem (i := 105) rfl rfl, t2_mem (i := 107) rfl rfl, t0_mem (i := 22) rfl rfl, iz_M, ⟨by decide +kernel, by decide +kernel⟩, by decide +kernel⟩
abbrev b_M_matches : ByteArray := prog_3_method_19_code
def y_M_matches : MethodName := ⟨R_M, "matches", "(II)Z"⟩
set_option maxRecDepth 20000 in
theorem kw_M_matches : Cond.code y_M_matches b_M_matches 3 (some .boolean) ∈ tW := t2_mem (i := 104) rfl rfl
set_option maxRecDepth 20000 in
theorem k_M_M_matches : gLk R_M R_M 66 y_M_matches b_M_matches 3 (some .boolean) 2 := ⟨rfl, kw_M_matches, t2_mem (i := 101) rfl rfl, t2_mem (i := 103) rfl rfl, t0_mem (i := 21) rfl rfl, iz_M, ⟨by decide +kernel, by decide +kernel⟩, by decide +kernel⟩
abbrev b_M_firstMatch : ByteArray := prog_3_method_20_code
def y_M_firstMatch : MethodName := ⟨R_M, "firstMatch", "(I)I"⟩
set_option maxRecDepth 20000 in
theorem kw_M_firstMatch : Cond.code y_M_firstMatch b_M_firstMatch 3 (some .int) ∈ tW := t2_mem (i := 100) rfl rfl
set_option maxRecDepth 20000 in
theorem k_M_M_firstMatch : gLk R_M R_M 69 y_M_firstMatch b_M_firstMatch 3 (some .int) 1 := ⟨rfl, kw_M_firstMatch, t2_mem (i := 97) rfl rfl, t2_mem (i := 99) rfl rfl, t0_mem (i := 20) rfl rfl, iz_M, ⟨by decide +kernel, by decide +kernel⟩, by decide +kernel⟩
abbrev b_M_verdict : ByteArray := prog_3_method_21_code
def y_M_verdict : MethodName := ⟨R_M, "verdict", "(I)I"⟩
set_option maxRecDepth 20000 in
theorem kw_M_verdict : Cond.code y_M_verdict b_M_verdict 3 (some .int) ∈ tW := t2_mem (i := 96) rfl rfl
set_option maxRecDepth 20000 in
theorem k_M_M_verdict : gLk R_M R_M 73 y_M_verdict b_M_verdict 3 (some .int) 1 := ⟨rfl, kw_M_verdict, t2_mem (i := 93) rfl rfl, t2_mem (i := 95) rfl rfl, t0_mem (i := 19) rfl rfl, iz_M, ⟨by decide +kernel, by decide +kernel⟩, by decide +kernel⟩
abbrev b_M_decide : ByteArray := prog_3_method_22_code
def y_M_decide : MethodName := ⟨R_M, "decide", "(I)I"⟩
set_option maxRecDepth 20000 in
theorem kw_M_decide : Cond.code y_M_decide b_M_decide 2 (some .int) ∈ tW := t2_mem (i := 92) rfl rfl
set_option maxRecDepth 20000 in
theorem k_law_M_decide : gLk R_M R_law 56 y_M_decide b_M_decide 2 (some .int) 1 := ⟨rfl, kw_M_decide, t2_mem (i := 89) rfl rfl, t2_mem (i := 90) rfl rfl, t2_mem (i := 91) rfl rfl, iz_M, ⟨by decide +kernel, by decide +kernel⟩, by decide +kernel⟩
abbrev b_M_matched : ByteArray := prog_3_method_23_code
def y_M_matched : MethodName := ⟨R_M, "matched", "(I)I"⟩
set_option maxRecDepth 20000 in
theorem kw_M_matched : Cond.code y_M_matched b_M_matched 2 (some .int) ∈ tW := t2_mem (i := 116) rfl rfl
set_option maxRecDepth 20000 in
theorem k_law_M_matched : gLk R_M R_law 60 y_M_matched b_M_matched 2 (some .int) 1 := ⟨rfl, kw_M_matched, t2_mem (i := 113) rfl rfl, t2_mem (i := 114) rfl rfl, t2_mem (i := 115) rfl rfl, iz_M, ⟨by decide +kernel, by decide +kernel⟩, by decide +kernel⟩
abbrev b_M_countWith : ByteArray := prog_3_method_24_code
def y_M_countWith : MethodName := ⟨R_M, "countWith", "(III)I"⟩
set_option maxRecDepth 20000 in
theorem kw_M_countWith : Cond.code y_M_countWith b_M_countWith 6 (some .int) ∈ tW := t2_mem (i := 120) rfl rfl
set_option maxRecDepth 20000 in
theorem k_law_M_countWith : gLk R_M R_law 65 y_M_countWith b_M_countWith 6 (some .int) 3 := ⟨rfl, kw_M_countWith, t2_mem (i := 117) rfl rfl, t2_mem (i := 118) rfl rfl, t2_mem (i := 119) rfl rfl, iz_M, ⟨by decide +kernel, by decide +kernel⟩, by decide +kernel⟩
abbrev b_M_nextWith : ByteArray := prog_3_method_25_code
def y_M_nextWith : MethodName := ⟨R_M, "nextWith", "(II)I"⟩
set_option maxRecDepth 20000 in
theorem kw_M_nextWith : Cond.code y_M_nextWith b_M_nextWith 4 (some .int) ∈ tW := t2_mem (i := 124) rfl rfl
set_option maxRecDepth 20000 in
theorem k_law_M_nextWith : gLk R_M R_law 69 y_M_nextWith b_M_nextWith 4 (some .int) 2 := ⟨rfl, kw_M_nextWith, t2_mem (i := 121) rfl rfl, t2_mem (i := 122) rfl rfl, t2_mem (i := 123) rfl rfl, iz_M, ⟨by decide +kernel, by decide +kernel⟩, by decide +kernel⟩
abbrev b_M_matching : ByteArray := prog_3_method_26_code
def y_M_matching : MethodName := ⟨R_M, "matching", "(I)I"⟩
set_option maxRecDepth 20000 in
theorem kw_M_matching : Cond.code y_M_matching b_M_matching 4 (some .int) ∈ tW := t2_mem (i := 128) rfl rfl
set_option maxRecDepth 20000 in
theorem k_law_M_matching : gLk R_M R_law 73 y_M_matching b_M_matching 4 (some .int) 1 := ⟨rfl, kw_M_matching, t2_mem (i := 125) rfl rfl, t2_mem (i := 126) rfl rfl, t2_mem (i := 127) rfl rfl, iz_M, ⟨by decide +kernel, by decide +kernel⟩, by decide +kernel⟩
abbrev b_M_shadowed : ByteArray := prog_3_method_27_code
def y_M_shadowed : MethodName := ⟨R_M, "shadowed", "(II)Z"⟩
set_option maxRecDepth 20000 in
theorem kw_M_shadowed : Cond.code y_M_shadowed b_M_shadowed 4 (some .boolean) ∈ tW := t2_mem (i := 136) rfl rfl
set_option maxRecDepth 20000 in
theorem k_M_M_shadowed : gLk R_M R_M 76 y_M_shadowed b_M_shadowed 4 (some .boolean) 2 := ⟨rfl, kw_M_shadowed, t2_mem (i := 133) rfl rfl, t2_mem (i := 135) rfl rfl, t0_mem (i := 24) rfl rfl, iz_M, ⟨by decide +kernel, by decide +kernel⟩, by decide +kernel⟩
abbrev b_M_hidden : ByteArray := prog_3_method_28_code
def y_M_hidden : MethodName := ⟨R_M, "hidden", "(I)I"⟩
set_option maxRecDepth 20000 in
theorem kw_M_hidden : Cond.code y_M_hidden b_M_hidden 3 (some .int) ∈ tW := t2_mem (i := 132) rfl rfl
set_option maxRecDepth 20000 in
theorem k_law_M_hidden : gLk R_M R_law 77 y_M_hidden b_M_hidden 3 (some .int) 1 := ⟨rfl, kw_M_hidden, t2_mem (i := 129) rfl rfl, t2_mem (i := 130) rfl rfl, t2_mem (i := 131) rfl rfl, iz_M, ⟨by decide +kernel, by decide +kernel⟩, by decide +kernel⟩
abbrev b_M_stretches : ByteArray := prog_3_method_29_code
def y_M_stretches : MethodName := ⟨R_M, "stretches", "()I"⟩
set_option maxRecDepth 20000 in
theorem kw_M_stretches : Cond.code y_M_stretches b_M_stretches 5 (some .int) ∈ tW := t2_mem (i := 140) rfl rfl
set_option maxRecDepth 20000 in
theorem k_law_M_stretches : gLk R_M R_law 81 y_M_stretches b_M_stretches 5 (some .int) 0 := ⟨rfl, kw_M_stretches, t2_mem (i := 137) rfl rfl, t2_mem (i := 138) rfl rfl, t2_mem (i := 139) rfl rfl, iz_M, ⟨by decide +kernel, by decide +kernel⟩, by decide +kernel⟩
abbrev b_M_open : ByteArray := prog_3_method_30_code
def y_M_open : MethodName := ⟨R_M, "open", "()I"⟩
set_option maxRecDepth 20000 in
theorem kw_M_open : Cond.code y_M_open b_M_open 5 (some .int) ∈ tW := t2_mem (i := 144) rfl rfl
set_option maxRecDepth 20000 in
theorem k_law_M_open : gLk R_M R_law 85 y_M_open b_M_open 5 (some .int) 0 := ⟨rfl, kw_M_open, t2_mem (i := 141) rfl rfl, t2_mem (i := 142) rfl rfl, t2_mem (i := 143) rfl rfl, iz_M, ⟨by decide +kernel, by decide +kernel⟩, by decide +kernel⟩
end
section
-- decode rows, by names.py
theorem d_X_init_0 : decode b_X_init 0 = .ok (.aload_n 0, 1) := by decide +kernel
theorem d_X_init_1 : decode b_X_init 1 = .ok (.invokespecial 1, 3) := by decide +kernel
theorem d_X_init_4 : decode b_X_init 4 = .ok (.aload_n 0, 1) := by decide +kernel
theorem d_X_init_5 : decode b_X_init 5 = .ok (.bipush 13, 2) := by decide +kernel
theorem d_X_init_7 : decode b_X_init 7 = .ok (.newarray .int, 2) := by decide +kernel
theorem d_X_init_9 : decode b_X_init 9 = .ok (.putfield 7, 3) := by decide +kernel
theorem d_X_init_12 : decode b_X_init 12 = .ok (.aload_n 0, 1) := by decide +kernel
theorem d_X_init_13 : decode b_X_init 13 = .ok (.bipush 13, 2) := by decide +kernel
theorem d_X_init_15 : decode b_X_init 15 = .ok (.newarray .int, 2) := by decide +kernel
theorem d_X_init_17 : decode b_X_init 17 = .ok (.putfield 13, 3) := by decide +kernel
theorem d_X_init_20 : decode b_X_init 20 = .ok (.aload_n 0, 1) := by decide +kernel
theorem d_X_init_21 : decode b_X_init 21 = .ok (.bipush 26, 2) := by decide +kernel
theorem d_X_init_23 : decode b_X_init 23 = .ok (.newarray .int, 2) := by decide +kernel
theorem d_X_init_25 : decode b_X_init 25 = .ok (.putfield 16, 3) := by decide +kernel
theorem d_X_init_28 : decode b_X_init 28 = .ok (.aload_n 0, 1) := by decide +kernel
theorem d_X_init_29 : decode b_X_init 29 = .ok (.bipush 26, 2) := by decide +kernel
theorem d_X_init_31 : decode b_X_init 31 = .ok (.newarray .int, 2) := by decide +kernel
theorem d_X_init_33 : decode b_X_init 33 = .ok (.putfield 19, 3) := by decide +kernel
theorem d_X_init_36 : decode b_X_init 36 = .ok (.aload_n 0, 1) := by decide +kernel
theorem d_X_init_37 : decode b_X_init 37 = .ok (.bipush 26, 2) := by decide +kernel
theorem d_X_init_39 : decode b_X_init 39 = .ok (.newarray .int, 2) := by decide +kernel
theorem d_X_init_41 : decode b_X_init 41 = .ok (.putfield 22, 3) := by decide +kernel
theorem d_X_init_44 : decode b_X_init 44 = .ok (.aload_n 0, 1) := by decide +kernel
theorem d_X_init_45 : decode b_X_init 45 = .ok (.bipush 13, 2) := by decide +kernel
theorem d_X_init_47 : decode b_X_init 47 = .ok (.newarray .int, 2) := by decide +kernel
theorem d_X_init_49 : decode b_X_init 49 = .ok (.putfield 25, 3) := by decide +kernel
theorem d_X_init_52 : decode b_X_init 52 = .ok (.aload_n 0, 1) := by decide +kernel
theorem d_X_init_53 : decode b_X_init 53 = .ok (.bipush 24, 2) := by decide +kernel
theorem d_X_init_55 : decode b_X_init 55 = .ok (.newarray .int, 2) := by decide +kernel
theorem d_X_init_57 : decode b_X_init 57 = .ok (.putfield 28, 3) := by decide +kernel
theorem d_X_init_60 : decode b_X_init 60 = .ok (.aload_n 0, 1) := by decide +kernel
theorem d_X_init_61 : decode b_X_init 61 = .ok (.bipush 24, 2) := by decide +kernel
theorem d_X_init_63 : decode b_X_init 63 = .ok (.newarray .int, 2) := by decide +kernel
theorem d_X_init_65 : decode b_X_init 65 = .ok (.putfield 31, 3) := by decide +kernel
theorem d_X_init_68 : decode b_X_init 68 = .ok (.aload_n 0, 1) := by decide +kernel
theorem d_X_init_69 : decode b_X_init 69 = .ok (.bipush 24, 2) := by decide +kernel
theorem d_X_init_71 : decode b_X_init 71 = .ok (.newarray .boolean, 2) := by decide +kernel
theorem d_X_init_73 : decode b_X_init 73 = .ok (.putfield 34, 3) := by decide +kernel
theorem d_X_init_76 : decode b_X_init 76 = .ok (.aload_n 0, 1) := by decide +kernel
theorem d_X_init_77 : decode b_X_init 77 = .ok (.bipush 32, 2) := by decide +kernel
theorem d_X_init_79 : decode b_X_init 79 = .ok (.newarray .int, 2) := by decide +kernel
theorem d_X_init_81 : decode b_X_init 81 = .ok (.putfield 38, 3) := by decide +kernel
theorem d_X_init_84 : decode b_X_init 84 = .ok (.aload_n 0, 1) := by decide +kernel
theorem d_X_init_85 : decode b_X_init 85 = .ok (.bipush 33, 2) := by decide +kernel
theorem d_X_init_87 : decode b_X_init 87 = .ok (.newarray .int, 2) := by decide +kernel
theorem d_X_init_89 : decode b_X_init 89 = .ok (.putfield 41, 3) := by decide +kernel
theorem d_X_init_92 : decode b_X_init 92 = .ok (.aload_n 0, 1) := by decide +kernel
theorem d_X_init_93 : decode b_X_init 93 = .ok (.bipush 32, 2) := by decide +kernel
theorem d_X_init_95 : decode b_X_init 95 = .ok (.newarray .int, 2) := by decide +kernel
theorem d_X_init_97 : decode b_X_init 97 = .ok (.putfield 44, 3) := by decide +kernel
theorem d_X_init_100 : decode b_X_init 100 = .ok (.aload_n 0, 1) := by decide +kernel
theorem d_X_init_101 : decode b_X_init 101 = .ok (.sipush 400, 3) := by decide +kernel
theorem d_X_init_104 : decode b_X_init 104 = .ok (.newarray .int, 2) := by decide +kernel
theorem d_X_init_106 : decode b_X_init 106 = .ok (.putfield 47, 3) := by decide +kernel
theorem d_X_init_109 : decode b_X_init 109 = .ok (.aload_n 0, 1) := by decide +kernel
theorem d_X_init_110 : decode b_X_init 110 = .ok (.sipush 400, 3) := by decide +kernel
theorem d_X_init_113 : decode b_X_init 113 = .ok (.newarray .int, 2) := by decide +kernel
theorem d_X_init_115 : decode b_X_init 115 = .ok (.putfield 50, 3) := by decide +kernel
theorem d_X_init_118 : decode b_X_init 118 = .ok (.aload_n 0, 1) := by decide +kernel
theorem d_X_init_119 : decode b_X_init 119 = .ok (.bipush 64, 2) := by decide +kernel
theorem d_X_init_121 : decode b_X_init 121 = .ok (.newarray .int, 2) := by decide +kernel
theorem d_X_init_123 : decode b_X_init 123 = .ok (.putfield 53, 3) := by decide +kernel
theorem d_X_init_126 : decode b_X_init 126 = .ok (.aload_n 0, 1) := by decide +kernel
theorem d_X_init_127 : decode b_X_init 127 = .ok (.bipush 64, 2) := by decide +kernel
theorem d_X_init_129 : decode b_X_init 129 = .ok (.newarray .int, 2) := by decide +kernel
theorem d_X_init_131 : decode b_X_init 131 = .ok (.putfield 56, 3) := by decide +kernel
theorem d_X_init_134 : decode b_X_init 134 = .ok (.aload_n 0, 1) := by decide +kernel
theorem d_X_init_135 : decode b_X_init 135 = .ok (.bipush 64, 2) := by decide +kernel
theorem d_X_init_137 : decode b_X_init 137 = .ok (.newarray .int, 2) := by decide +kernel
theorem d_X_init_139 : decode b_X_init 139 = .ok (.putfield 59, 3) := by decide +kernel
theorem d_X_init_142 : decode b_X_init 142 = .ok (.aload_n 0, 1) := by decide +kernel
theorem d_X_init_143 : decode b_X_init 143 = .ok (.bipush 64, 2) := by decide +kernel
theorem d_X_init_145 : decode b_X_init 145 = .ok (.newarray .int, 2) := by decide +kernel
theorem d_X_init_147 : decode b_X_init 147 = .ok (.putfield 62, 3) := by decide +kernel
theorem d_X_init_150 : decode b_X_init 150 = .ok (.aload_n 0, 1) := by decide +kernel
theorem d_X_init_151 : decode b_X_init 151 = .ok (.bipush 64, 2) := by decide +kernel
theorem d_X_init_153 : decode b_X_init 153 = .ok (.newarray .int, 2) := by decide +kernel
theorem d_X_init_155 : decode b_X_init 155 = .ok (.putfield 65, 3) := by decide +kernel
theorem d_X_init_158 : decode b_X_init 158 = .ok (.aload_n 0, 1) := by decide +kernel
theorem d_X_init_159 : decode b_X_init 159 = .ok (.iconst 2, 1) := by decide +kernel
theorem d_X_init_160 : decode b_X_init 160 = .ok (.newarray .int, 2) := by decide +kernel
theorem d_X_init_162 : decode b_X_init 162 = .ok (.putfield 68, 3) := by decide +kernel
theorem d_X_init_165 : decode b_X_init 165 = .ok (.aload_n 0, 1) := by decide +kernel
theorem d_X_init_166 : decode b_X_init 166 = .ok (.iconst 2, 1) := by decide +kernel
theorem d_X_init_167 : decode b_X_init 167 = .ok (.newarray .int, 2) := by decide +kernel
theorem d_X_init_169 : decode b_X_init 169 = .ok (.putfield 71, 3) := by decide +kernel
theorem d_X_init_172 : decode b_X_init 172 = .ok (.aload_n 0, 1) := by decide +kernel
theorem d_X_init_173 : decode b_X_init 173 = .ok (.iconst 2, 1) := by decide +kernel
theorem d_X_init_174 : decode b_X_init 174 = .ok (.newarray .int, 2) := by decide +kernel
theorem d_X_init_176 : decode b_X_init 176 = .ok (.putfield 74, 3) := by decide +kernel
theorem d_X_init_179 : decode b_X_init 179 = .ok (.aload_n 0, 1) := by decide +kernel
theorem d_X_init_180 : decode b_X_init 180 = .ok (.iconst 2, 1) := by decide +kernel
theorem d_X_init_181 : decode b_X_init 181 = .ok (.newarray .int, 2) := by decide +kernel
theorem d_X_init_183 : decode b_X_init 183 = .ok (.putfield 77, 3) := by decide +kernel
theorem d_X_init_186 : decode b_X_init 186 = .ok (.aload_n 0, 1) := by decide +kernel
theorem d_X_init_187 : decode b_X_init 187 = .ok (.bipush 31, 2) := by decide +kernel
theorem d_X_init_189 : decode b_X_init 189 = .ok (.putfield 80, 3) := by decide +kernel
theorem d_X_init_192 : decode b_X_init 192 = .ok (.return_, 1) := by decide +kernel
theorem d_X_range_0 : decode b_X_range 0 = .ok (.iload_n 1, 1) := by decide +kernel
theorem d_X_range_1 : decode b_X_range 1 = .ok (.invokestatic 84, 3) := by decide +kernel
theorem d_X_range_4 : decode b_X_range 4 = .ok (.ifCond .eq 10, 3) := by decide +kernel
theorem d_X_range_7 : decode b_X_range 7 = .ok (.iload_n 2, 1) := by decide +kernel
theorem d_X_range_8 : decode b_X_range 8 = .ok (.invokestatic 84, 3) := by decide +kernel
theorem d_X_range_11 : decode b_X_range 11 = .ok (.ifCond .ne 5, 3) := by decide +kernel
theorem d_X_range_14 : decode b_X_range 14 = .ok (.iconst (-1), 1) := by decide +kernel
theorem d_X_range_15 : decode b_X_range 15 = .ok (.ireturn, 1) := by decide +kernel
theorem d_X_range_16 : decode b_X_range 16 = .ok (.iload_n 1, 1) := by decide +kernel
theorem d_X_range_17 : decode b_X_range 17 = .ok (.iload_n 2, 1) := by decide +kernel
theorem d_X_range_18 : decode b_X_range 18 = .ok (.if_icmp .le 6, 3) := by decide +kernel
theorem d_X_range_21 : decode b_X_range 21 = .ok (.bipush (-2), 2) := by decide +kernel
theorem d_X_range_23 : decode b_X_range 23 = .ok (.ireturn, 1) := by decide +kernel
theorem d_X_range_24 : decode b_X_range 24 = .ok (.aload_n 0, 1) := by decide +kernel
theorem d_X_range_25 : decode b_X_range 25 = .ok (.iload_n 1, 1) := by decide +kernel
theorem d_X_range_26 : decode b_X_range 26 = .ok (.putfield 88, 3) := by decide +kernel
theorem d_X_range_29 : decode b_X_range 29 = .ok (.aload_n 0, 1) := by decide +kernel
theorem d_X_range_30 : decode b_X_range 30 = .ok (.iload_n 2, 1) := by decide +kernel
theorem d_X_range_31 : decode b_X_range 31 = .ok (.putfield 80, 3) := by decide +kernel
theorem d_X_range_34 : decode b_X_range 34 = .ok (.iconst 0, 1) := by decide +kernel
theorem d_X_range_35 : decode b_X_range 35 = .ok (.ireturn, 1) := by decide +kernel
theorem d_X_condition_0 : decode b_X_condition 0 = .ok (.iload_n 1, 1) := by decide +kernel
theorem d_X_condition_1 : decode b_X_condition 1 = .ok (.ifCond .eq 10, 3) := by decide +kernel
theorem d_X_condition_4 : decode b_X_condition 4 = .ok (.iload_n 1, 1) := by decide +kernel
theorem d_X_condition_5 : decode b_X_condition 5 = .ok (.iconst 1, 1) := by decide +kernel
theorem d_X_condition_6 : decode b_X_condition 6 = .ok (.if_icmp .eq 5, 3) := by decide +kernel
theorem d_X_condition_9 : decode b_X_condition 9 = .ok (.iconst (-1), 1) := by decide +kernel
theorem d_X_condition_10 : decode b_X_condition 10 = .ok (.ireturn, 1) := by decide +kernel
theorem d_X_condition_11 : decode b_X_condition 11 = .ok (.iload_n 2, 1) := by decide +kernel
theorem d_X_condition_12 : decode b_X_condition 12 = .ok (.ifCond .lt 18, 3) := by decide +kernel
theorem d_X_condition_15 : decode b_X_condition 15 = .ok (.iload_n 2, 1) := by decide +kernel
theorem d_X_condition_16 : decode b_X_condition 16 = .ok (.bipush 15, 2) := by decide +kernel
theorem d_X_condition_18 : decode b_X_condition 18 = .ok (.if_icmp .gt 12, 3) := by decide +kernel
theorem d_X_condition_21 : decode b_X_condition 21 = .ok (.iload_n 2, 1) := by decide +kernel
theorem d_X_condition_22 : decode b_X_condition 22 = .ok (.bipush 7, 2) := by decide +kernel
theorem d_X_condition_24 : decode b_X_condition 24 = .ok (.iand, 1) := by decide +kernel
theorem d_X_condition_25 : decode b_X_condition 25 = .ok (.bipush 7, 2) := by decide +kernel
theorem d_X_condition_27 : decode b_X_condition 27 = .ok (.if_icmp .ne 6, 3) := by decide +kernel
theorem d_X_condition_30 : decode b_X_condition 30 = .ok (.bipush (-2), 2) := by decide +kernel
theorem d_X_condition_32 : decode b_X_condition 32 = .ok (.ireturn, 1) := by decide +kernel
theorem d_X_condition_33 : decode b_X_condition 33 = .ok (.aload_n 0, 1) := by decide +kernel
theorem d_X_condition_34 : decode b_X_condition 34 = .ok (.getfield 71, 3) := by decide +kernel
theorem d_X_condition_37 : decode b_X_condition 37 = .ok (.iload_n 1, 1) := by decide +kernel
theorem d_X_condition_38 : decode b_X_condition 38 = .ok (.iload_n 2, 1) := by decide +kernel
theorem d_X_condition_39 : decode b_X_condition 39 = .ok (.iastore, 1) := by decide +kernel
theorem d_X_condition_40 : decode b_X_condition 40 = .ok (.aload_n 0, 1) := by decide +kernel
theorem d_X_condition_41 : decode b_X_condition 41 = .ok (.getfield 74, 3) := by decide +kernel
theorem d_X_condition_44 : decode b_X_condition 44 = .ok (.iload_n 1, 1) := by decide +kernel
theorem d_X_condition_45 : decode b_X_condition 45 = .ok (.iload_n 3, 1) := by decide +kernel
theorem d_X_condition_46 : decode b_X_condition 46 = .ok (.iastore, 1) := by decide +kernel
theorem d_X_condition_47 : decode b_X_condition 47 = .ok (.aload_n 0, 1) := by decide +kernel
theorem d_X_condition_48 : decode b_X_condition 48 = .ok (.getfield 77, 3) := by decide +kernel
theorem d_X_condition_51 : decode b_X_condition 51 = .ok (.iload_n 1, 1) := by decide +kernel
theorem d_X_condition_52 : decode b_X_condition 52 = .ok (.iload 4, 2) := by decide +kernel
theorem d_X_condition_54 : decode b_X_condition 54 = .ok (.iastore, 1) := by decide +kernel
theorem d_X_condition_55 : decode b_X_condition 55 = .ok (.iconst 0, 1) := by decide +kernel
theorem d_X_condition_56 : decode b_X_condition 56 = .ok (.ireturn, 1) := by decide +kernel
theorem d_X_put_0 : decode b_X_put 0 = .ok (.iload_n 1, 1) := by decide +kernel
theorem d_X_put_1 : decode b_X_put 1 = .ok (.ifCond .lt 11, 3) := by decide +kernel
theorem d_X_put_4 : decode b_X_put 4 = .ok (.iload_n 1, 1) := by decide +kernel
theorem d_X_put_5 : decode b_X_put 5 = .ok (.aload_n 0, 1) := by decide +kernel
theorem d_X_put_6 : decode b_X_put 6 = .ok (.getfield 91, 3) := by decide +kernel
theorem d_X_put_9 : decode b_X_put 9 = .ok (.if_icmp .le 5, 3) := by decide +kernel
theorem d_X_put_12 : decode b_X_put 12 = .ok (.iconst (-1), 1) := by decide +kernel
theorem d_X_put_13 : decode b_X_put 13 = .ok (.ireturn, 1) := by decide +kernel
theorem d_X_put_14 : decode b_X_put 14 = .ok (.iload_n 2, 1) := by decide +kernel
theorem d_X_put_15 : decode b_X_put 15 = .ok (.invokestatic 94, 3) := by decide +kernel
theorem d_X_put_18 : decode b_X_put 18 = .ok (.ifCond .ne 6, 3) := by decide +kernel
theorem d_X_put_21 : decode b_X_put 21 = .ok (.bipush (-2), 2) := by decide +kernel
theorem d_X_put_23 : decode b_X_put 23 = .ok (.ireturn, 1) := by decide +kernel
theorem d_X_put_24 : decode b_X_put 24 = .ok (.aload_n 0, 1) := by decide +kernel
theorem d_X_put_25 : decode b_X_put 25 = .ok (.getfield 91, 3) := by decide +kernel
theorem d_X_put_28 : decode b_X_put 28 = .ok (.bipush 12, 2) := by decide +kernel
theorem d_X_put_30 : decode b_X_put 30 = .ok (.if_icmp .ne 6, 3) := by decide +kernel
theorem d_X_put_33 : decode b_X_put 33 = .ok (.bipush (-3), 2) := by decide +kernel
theorem d_X_put_35 : decode b_X_put 35 = .ok (.ireturn, 1) := by decide +kernel
theorem d_X_put_36 : decode b_X_put 36 = .ok (.aload_n 0, 1) := by decide +kernel
theorem d_X_put_37 : decode b_X_put 37 = .ok (.getfield 91, 3) := by decide +kernel
theorem d_X_put_40 : decode b_X_put 40 = .ok (.istore_n 3, 1) := by decide +kernel
theorem d_X_put_41 : decode b_X_put 41 = .ok (.iload_n 3, 1) := by decide +kernel
theorem d_X_put_42 : decode b_X_put 42 = .ok (.iload_n 1, 1) := by decide +kernel
theorem d_X_put_43 : decode b_X_put 43 = .ok (.if_icmp .le 17, 3) := by decide +kernel
theorem d_X_put_46 : decode b_X_put 46 = .ok (.aload_n 0, 1) := by decide +kernel
theorem d_X_put_47 : decode b_X_put 47 = .ok (.iload_n 3, 1) := by decide +kernel
theorem d_X_put_48 : decode b_X_put 48 = .ok (.iconst 1, 1) := by decide +kernel
theorem d_X_put_49 : decode b_X_put 49 = .ok (.isub, 1) := by decide +kernel
theorem d_X_put_50 : decode b_X_put 50 = .ok (.iload_n 3, 1) := by decide +kernel
theorem d_X_put_51 : decode b_X_put 51 = .ok (.invokevirtual 97, 3) := by decide +kernel
theorem d_X_put_54 : decode b_X_put 54 = .ok (.iinc 3 (-1), 3) := by decide +kernel
theorem d_X_put_57 : decode b_X_put 57 = .ok (.goto (-16), 3) := by decide +kernel
theorem d_X_put_60 : decode b_X_put 60 = .ok (.aload_n 0, 1) := by decide +kernel
theorem d_X_put_61 : decode b_X_put 61 = .ok (.getfield 7, 3) := by decide +kernel
theorem d_X_put_64 : decode b_X_put 64 = .ok (.iload_n 1, 1) := by decide +kernel
theorem d_X_put_65 : decode b_X_put 65 = .ok (.aload_n 0, 1) := by decide +kernel
theorem d_X_put_66 : decode b_X_put 66 = .ok (.getfield 88, 3) := by decide +kernel
theorem d_X_put_69 : decode b_X_put 69 = .ok (.iastore, 1) := by decide +kernel
theorem d_X_put_70 : decode b_X_put 70 = .ok (.aload_n 0, 1) := by decide +kernel
theorem d_X_put_71 : decode b_X_put 71 = .ok (.getfield 13, 3) := by decide +kernel
theorem d_X_put_74 : decode b_X_put 74 = .ok (.iload_n 1, 1) := by decide +kernel
theorem d_X_put_75 : decode b_X_put 75 = .ok (.aload_n 0, 1) := by decide +kernel
theorem d_X_put_76 : decode b_X_put 76 = .ok (.getfield 80, 3) := by decide +kernel
theorem d_X_put_79 : decode b_X_put 79 = .ok (.iastore, 1) := by decide +kernel
theorem d_X_put_80 : decode b_X_put 80 = .ok (.aload_n 0, 1) := by decide +kernel
theorem d_X_put_81 : decode b_X_put 81 = .ok (.getfield 25, 3) := by decide +kernel
theorem d_X_put_84 : decode b_X_put 84 = .ok (.iload_n 1, 1) := by decide +kernel
theorem d_X_put_85 : decode b_X_put 85 = .ok (.iload_n 2, 1) := by decide +kernel
theorem d_X_put_86 : decode b_X_put 86 = .ok (.iastore, 1) := by decide +kernel
theorem d_X_put_87 : decode b_X_put 87 = .ok (.iconst 0, 1) := by decide +kernel
theorem d_X_put_88 : decode b_X_put 88 = .ok (.istore_n 3, 1) := by decide +kernel
theorem d_X_put_89 : decode b_X_put 89 = .ok (.iload_n 3, 1) := by decide +kernel
theorem d_X_put_90 : decode b_X_put 90 = .ok (.iconst 2, 1) := by decide +kernel
theorem d_X_put_91 : decode b_X_put 91 = .ok (.if_icmp .ge 57, 3) := by decide +kernel
theorem d_X_put_94 : decode b_X_put 94 = .ok (.aload_n 0, 1) := by decide +kernel
theorem d_X_put_95 : decode b_X_put 95 = .ok (.getfield 16, 3) := by decide +kernel
theorem d_X_put_98 : decode b_X_put 98 = .ok (.iconst 2, 1) := by decide +kernel
theorem d_X_put_99 : decode b_X_put 99 = .ok (.iload_n 1, 1) := by decide +kernel
theorem d_X_put_100 : decode b_X_put 100 = .ok (.imul, 1) := by decide +kernel
theorem d_X_put_101 : decode b_X_put 101 = .ok (.iload_n 3, 1) := by decide +kernel
theorem d_X_put_102 : decode b_X_put 102 = .ok (.iadd, 1) := by decide +kernel
theorem d_X_put_103 : decode b_X_put 103 = .ok (.aload_n 0, 1) := by decide +kernel
theorem d_X_put_104 : decode b_X_put 104 = .ok (.getfield 71, 3) := by decide +kernel
theorem d_X_put_107 : decode b_X_put 107 = .ok (.iload_n 3, 1) := by decide +kernel
theorem d_X_put_108 : decode b_X_put 108 = .ok (.iaload, 1) := by decide +kernel
theorem d_X_put_109 : decode b_X_put 109 = .ok (.iastore, 1) := by decide +kernel
theorem d_X_put_110 : decode b_X_put 110 = .ok (.aload_n 0, 1) := by decide +kernel
theorem d_X_put_111 : decode b_X_put 111 = .ok (.getfield 19, 3) := by decide +kernel
theorem d_X_put_114 : decode b_X_put 114 = .ok (.iconst 2, 1) := by decide +kernel
theorem d_X_put_115 : decode b_X_put 115 = .ok (.iload_n 1, 1) := by decide +kernel
theorem d_X_put_116 : decode b_X_put 116 = .ok (.imul, 1) := by decide +kernel
theorem d_X_put_117 : decode b_X_put 117 = .ok (.iload_n 3, 1) := by decide +kernel
theorem d_X_put_118 : decode b_X_put 118 = .ok (.iadd, 1) := by decide +kernel
theorem d_X_put_119 : decode b_X_put 119 = .ok (.aload_n 0, 1) := by decide +kernel
theorem d_X_put_120 : decode b_X_put 120 = .ok (.getfield 74, 3) := by decide +kernel
theorem d_X_put_123 : decode b_X_put 123 = .ok (.iload_n 3, 1) := by decide +kernel
theorem d_X_put_124 : decode b_X_put 124 = .ok (.iaload, 1) := by decide +kernel
theorem d_X_put_125 : decode b_X_put 125 = .ok (.iastore, 1) := by decide +kernel
theorem d_X_put_126 : decode b_X_put 126 = .ok (.aload_n 0, 1) := by decide +kernel
theorem d_X_put_127 : decode b_X_put 127 = .ok (.getfield 22, 3) := by decide +kernel
theorem d_X_put_130 : decode b_X_put 130 = .ok (.iconst 2, 1) := by decide +kernel
theorem d_X_put_131 : decode b_X_put 131 = .ok (.iload_n 1, 1) := by decide +kernel
theorem d_X_put_132 : decode b_X_put 132 = .ok (.imul, 1) := by decide +kernel
theorem d_X_put_133 : decode b_X_put 133 = .ok (.iload_n 3, 1) := by decide +kernel
theorem d_X_put_134 : decode b_X_put 134 = .ok (.iadd, 1) := by decide +kernel
theorem d_X_put_135 : decode b_X_put 135 = .ok (.aload_n 0, 1) := by decide +kernel
theorem d_X_put_136 : decode b_X_put 136 = .ok (.getfield 77, 3) := by decide +kernel
theorem d_X_put_139 : decode b_X_put 139 = .ok (.iload_n 3, 1) := by decide +kernel
theorem d_X_put_140 : decode b_X_put 140 = .ok (.iaload, 1) := by decide +kernel
theorem d_X_put_141 : decode b_X_put 141 = .ok (.iastore, 1) := by decide +kernel
theorem d_X_put_142 : decode b_X_put 142 = .ok (.iinc 3 1, 3) := by decide +kernel
theorem d_X_put_145 : decode b_X_put 145 = .ok (.goto (-56), 3) := by decide +kernel
theorem d_X_put_148 : decode b_X_put 148 = .ok (.aload_n 0, 1) := by decide +kernel
theorem d_X_put_149 : decode b_X_put 149 = .ok (.dup, 1) := by decide +kernel
theorem d_X_put_150 : decode b_X_put 150 = .ok (.getfield 91, 3) := by decide +kernel
theorem d_X_put_153 : decode b_X_put 153 = .ok (.iconst 1, 1) := by decide +kernel
theorem d_X_put_154 : decode b_X_put 154 = .ok (.iadd, 1) := by decide +kernel
theorem d_X_put_155 : decode b_X_put 155 = .ok (.putfield 91, 3) := by decide +kernel
theorem d_X_put_158 : decode b_X_put 158 = .ok (.aload_n 0, 1) := by decide +kernel
theorem d_X_put_159 : decode b_X_put 159 = .ok (.iconst 0, 1) := by decide +kernel
theorem d_X_put_160 : decode b_X_put 160 = .ok (.putfield 101, 3) := by decide +kernel
theorem d_X_put_163 : decode b_X_put 163 = .ok (.aload_n 0, 1) := by decide +kernel
theorem d_X_put_164 : decode b_X_put 164 = .ok (.getfield 91, 3) := by decide +kernel
theorem d_X_put_167 : decode b_X_put 167 = .ok (.ireturn, 1) := by decide +kernel
theorem d_X_remove_0 : decode b_X_remove 0 = .ok (.aload_n 0, 1) := by decide +kernel
theorem d_X_remove_1 : decode b_X_remove 1 = .ok (.iload_n 1, 1) := by decide +kernel
theorem d_X_remove_2 : decode b_X_remove 2 = .ok (.invokevirtual 105, 3) := by decide +kernel
theorem d_X_remove_5 : decode b_X_remove 5 = .ok (.ifCond .ne 5, 3) := by decide +kernel
theorem d_X_remove_8 : decode b_X_remove 8 = .ok (.iconst (-1), 1) := by decide +kernel
theorem d_X_remove_9 : decode b_X_remove 9 = .ok (.ireturn, 1) := by decide +kernel
theorem d_X_remove_10 : decode b_X_remove 10 = .ok (.aload_n 0, 1) := by decide +kernel
theorem d_X_remove_11 : decode b_X_remove 11 = .ok (.getfield 25, 3) := by decide +kernel
theorem d_X_remove_14 : decode b_X_remove 14 = .ok (.iload_n 1, 1) := by decide +kernel
theorem d_X_remove_15 : decode b_X_remove 15 = .ok (.iaload, 1) := by decide +kernel
theorem d_X_remove_16 : decode b_X_remove 16 = .ok (.istore_n 2, 1) := by decide +kernel
theorem d_X_remove_17 : decode b_X_remove 17 = .ok (.iload_n 1, 1) := by decide +kernel
theorem d_X_remove_18 : decode b_X_remove 18 = .ok (.iconst 1, 1) := by decide +kernel
theorem d_X_remove_19 : decode b_X_remove 19 = .ok (.iadd, 1) := by decide +kernel
theorem d_X_remove_20 : decode b_X_remove 20 = .ok (.istore_n 3, 1) := by decide +kernel
theorem d_X_remove_21 : decode b_X_remove 21 = .ok (.iload_n 3, 1) := by decide +kernel
theorem d_X_remove_22 : decode b_X_remove 22 = .ok (.aload_n 0, 1) := by decide +kernel
theorem d_X_remove_23 : decode b_X_remove 23 = .ok (.getfield 91, 3) := by decide +kernel
theorem d_X_remove_26 : decode b_X_remove 26 = .ok (.if_icmp .ge 17, 3) := by decide +kernel
theorem d_X_remove_29 : decode b_X_remove 29 = .ok (.aload_n 0, 1) := by decide +kernel
theorem d_X_remove_30 : decode b_X_remove 30 = .ok (.iload_n 3, 1) := by decide +kernel
theorem d_X_remove_31 : decode b_X_remove 31 = .ok (.iload_n 3, 1) := by decide +kernel
theorem d_X_remove_32 : decode b_X_remove 32 = .ok (.iconst 1, 1) := by decide +kernel
theorem d_X_remove_33 : decode b_X_remove 33 = .ok (.isub, 1) := by decide +kernel
theorem d_X_remove_34 : decode b_X_remove 34 = .ok (.invokevirtual 97, 3) := by decide +kernel
theorem d_X_remove_37 : decode b_X_remove 37 = .ok (.iinc 3 1, 3) := by decide +kernel
theorem d_X_remove_40 : decode b_X_remove 40 = .ok (.goto (-19), 3) := by decide +kernel
theorem d_X_remove_43 : decode b_X_remove 43 = .ok (.aload_n 0, 1) := by decide +kernel
theorem d_X_remove_44 : decode b_X_remove 44 = .ok (.dup, 1) := by decide +kernel
theorem d_X_remove_45 : decode b_X_remove 45 = .ok (.getfield 91, 3) := by decide +kernel
theorem d_X_remove_48 : decode b_X_remove 48 = .ok (.iconst 1, 1) := by decide +kernel
theorem d_X_remove_49 : decode b_X_remove 49 = .ok (.isub, 1) := by decide +kernel
theorem d_X_remove_50 : decode b_X_remove 50 = .ok (.putfield 91, 3) := by decide +kernel
theorem d_X_remove_53 : decode b_X_remove 53 = .ok (.aload_n 0, 1) := by decide +kernel
theorem d_X_remove_54 : decode b_X_remove 54 = .ok (.iconst 0, 1) := by decide +kernel
theorem d_X_remove_55 : decode b_X_remove 55 = .ok (.putfield 101, 3) := by decide +kernel
theorem d_X_remove_58 : decode b_X_remove 58 = .ok (.iload_n 2, 1) := by decide +kernel
theorem d_X_remove_59 : decode b_X_remove 59 = .ok (.ireturn, 1) := by decide +kernel
theorem d_X_move_0 : decode b_X_move 0 = .ok (.aload_n 0, 1) := by decide +kernel
theorem d_X_move_1 : decode b_X_move 1 = .ok (.iload_n 1, 1) := by decide +kernel
theorem d_X_move_2 : decode b_X_move 2 = .ok (.invokevirtual 105, 3) := by decide +kernel
theorem d_X_move_5 : decode b_X_move 5 = .ok (.ifCond .ne 5, 3) := by decide +kernel
theorem d_X_move_8 : decode b_X_move 8 = .ok (.iconst (-1), 1) := by decide +kernel
theorem d_X_move_9 : decode b_X_move 9 = .ok (.ireturn, 1) := by decide +kernel
theorem d_X_move_10 : decode b_X_move 10 = .ok (.aload_n 0, 1) := by decide +kernel
theorem d_X_move_11 : decode b_X_move 11 = .ok (.iload_n 2, 1) := by decide +kernel
theorem d_X_move_12 : decode b_X_move 12 = .ok (.invokevirtual 105, 3) := by decide +kernel
theorem d_X_move_15 : decode b_X_move 15 = .ok (.ifCond .ne 6, 3) := by decide +kernel
theorem d_X_move_18 : decode b_X_move 18 = .ok (.bipush (-2), 2) := by decide +kernel
theorem d_X_move_20 : decode b_X_move 20 = .ok (.ireturn, 1) := by decide +kernel
theorem d_X_move_21 : decode b_X_move 21 = .ok (.aload_n 0, 1) := by decide +kernel
theorem d_X_move_22 : decode b_X_move 22 = .ok (.iload_n 1, 1) := by decide +kernel
theorem d_X_move_23 : decode b_X_move 23 = .ok (.bipush 12, 2) := by decide +kernel
theorem d_X_move_25 : decode b_X_move 25 = .ok (.invokevirtual 97, 3) := by decide +kernel
theorem d_X_move_28 : decode b_X_move 28 = .ok (.iload_n 1, 1) := by decide +kernel
theorem d_X_move_29 : decode b_X_move 29 = .ok (.istore_n 3, 1) := by decide +kernel
theorem d_X_move_30 : decode b_X_move 30 = .ok (.iload_n 3, 1) := by decide +kernel
theorem d_X_move_31 : decode b_X_move 31 = .ok (.iload_n 2, 1) := by decide +kernel
theorem d_X_move_32 : decode b_X_move 32 = .ok (.if_icmp .ge 17, 3) := by decide +kernel
theorem d_X_move_35 : decode b_X_move 35 = .ok (.aload_n 0, 1) := by decide +kernel
theorem d_X_move_36 : decode b_X_move 36 = .ok (.iload_n 3, 1) := by decide +kernel
theorem d_X_move_37 : decode b_X_move 37 = .ok (.iconst 1, 1) := by decide +kernel
theorem d_X_move_38 : decode b_X_move 38 = .ok (.iadd, 1) := by decide +kernel
theorem d_X_move_39 : decode b_X_move 39 = .ok (.iload_n 3, 1) := by decide +kernel
theorem d_X_move_40 : decode b_X_move 40 = .ok (.invokevirtual 97, 3) := by decide +kernel
theorem d_X_move_43 : decode b_X_move 43 = .ok (.iinc 3 1, 3) := by decide +kernel
theorem d_X_move_46 : decode b_X_move 46 = .ok (.goto (-16), 3) := by decide +kernel
theorem d_X_move_49 : decode b_X_move 49 = .ok (.iload_n 1, 1) := by decide +kernel
theorem d_X_move_50 : decode b_X_move 50 = .ok (.istore_n 3, 1) := by decide +kernel
theorem d_X_move_51 : decode b_X_move 51 = .ok (.iload_n 3, 1) := by decide +kernel
theorem d_X_move_52 : decode b_X_move 52 = .ok (.iload_n 2, 1) := by decide +kernel
theorem d_X_move_53 : decode b_X_move 53 = .ok (.if_icmp .le 17, 3) := by decide +kernel
theorem d_X_move_56 : decode b_X_move 56 = .ok (.aload_n 0, 1) := by decide +kernel
theorem d_X_move_57 : decode b_X_move 57 = .ok (.iload_n 3, 1) := by decide +kernel
theorem d_X_move_58 : decode b_X_move 58 = .ok (.iconst 1, 1) := by decide +kernel
theorem d_X_move_59 : decode b_X_move 59 = .ok (.isub, 1) := by decide +kernel
theorem d_X_move_60 : decode b_X_move 60 = .ok (.iload_n 3, 1) := by decide +kernel
theorem d_X_move_61 : decode b_X_move 61 = .ok (.invokevirtual 97, 3) := by decide +kernel
theorem d_X_move_64 : decode b_X_move 64 = .ok (.iinc 3 (-1), 3) := by decide +kernel
theorem d_X_move_67 : decode b_X_move 67 = .ok (.goto (-16), 3) := by decide +kernel
theorem d_X_move_70 : decode b_X_move 70 = .ok (.aload_n 0, 1) := by decide +kernel
theorem d_X_move_71 : decode b_X_move 71 = .ok (.bipush 12, 2) := by decide +kernel
theorem d_X_move_73 : decode b_X_move 73 = .ok (.iload_n 2, 1) := by decide +kernel
theorem d_X_move_74 : decode b_X_move 74 = .ok (.invokevirtual 97, 3) := by decide +kernel
theorem d_X_move_77 : decode b_X_move 77 = .ok (.aload_n 0, 1) := by decide +kernel
theorem d_X_move_78 : decode b_X_move 78 = .ok (.iconst 0, 1) := by decide +kernel
theorem d_X_move_79 : decode b_X_move 79 = .ok (.putfield 101, 3) := by decide +kernel
theorem d_X_move_82 : decode b_X_move 82 = .ok (.iconst 0, 1) := by decide +kernel
theorem d_X_move_83 : decode b_X_move 83 = .ok (.ireturn, 1) := by decide +kernel
theorem d_X_change_0 : decode b_X_change 0 = .ok (.aload_n 0, 1) := by decide +kernel
theorem d_X_change_1 : decode b_X_change 1 = .ok (.iload_n 1, 1) := by decide +kernel
theorem d_X_change_2 : decode b_X_change 2 = .ok (.invokevirtual 105, 3) := by decide +kernel
theorem d_X_change_5 : decode b_X_change 5 = .ok (.ifCond .ne 5, 3) := by decide +kernel
theorem d_X_change_8 : decode b_X_change 8 = .ok (.iconst (-1), 1) := by decide +kernel
theorem d_X_change_9 : decode b_X_change 9 = .ok (.ireturn, 1) := by decide +kernel
theorem d_X_change_10 : decode b_X_change 10 = .ok (.iload_n 2, 1) := by decide +kernel
theorem d_X_change_11 : decode b_X_change 11 = .ok (.invokestatic 94, 3) := by decide +kernel
theorem d_X_change_14 : decode b_X_change 14 = .ok (.ifCond .ne 6, 3) := by decide +kernel
theorem d_X_change_17 : decode b_X_change 17 = .ok (.bipush (-2), 2) := by decide +kernel
theorem d_X_change_19 : decode b_X_change 19 = .ok (.ireturn, 1) := by decide +kernel
theorem d_X_change_20 : decode b_X_change 20 = .ok (.aload_n 0, 1) := by decide +kernel
theorem d_X_change_21 : decode b_X_change 21 = .ok (.getfield 25, 3) := by decide +kernel
theorem d_X_change_24 : decode b_X_change 24 = .ok (.iload_n 1, 1) := by decide +kernel
theorem d_X_change_25 : decode b_X_change 25 = .ok (.iaload, 1) := by decide +kernel
theorem d_X_change_26 : decode b_X_change 26 = .ok (.istore_n 3, 1) := by decide +kernel
theorem d_X_change_27 : decode b_X_change 27 = .ok (.aload_n 0, 1) := by decide +kernel
theorem d_X_change_28 : decode b_X_change 28 = .ok (.getfield 25, 3) := by decide +kernel
theorem d_X_change_31 : decode b_X_change 31 = .ok (.iload_n 1, 1) := by decide +kernel
theorem d_X_change_32 : decode b_X_change 32 = .ok (.iload_n 2, 1) := by decide +kernel
theorem d_X_change_33 : decode b_X_change 33 = .ok (.iastore, 1) := by decide +kernel
theorem d_X_change_34 : decode b_X_change 34 = .ok (.iload_n 3, 1) := by decide +kernel
theorem d_X_change_35 : decode b_X_change 35 = .ok (.ireturn, 1) := by decide +kernel
theorem d_X_fallback_0 : decode b_X_fallback 0 = .ok (.iload_n 1, 1) := by decide +kernel
theorem d_X_fallback_1 : decode b_X_fallback 1 = .ok (.invokestatic 94, 3) := by decide +kernel
theorem d_X_fallback_4 : decode b_X_fallback 4 = .ok (.ifCond .ne 5, 3) := by decide +kernel
theorem d_X_fallback_7 : decode b_X_fallback 7 = .ok (.iconst (-1), 1) := by decide +kernel
theorem d_X_fallback_8 : decode b_X_fallback 8 = .ok (.ireturn, 1) := by decide +kernel
theorem d_X_fallback_9 : decode b_X_fallback 9 = .ok (.aload_n 0, 1) := by decide +kernel
theorem d_X_fallback_10 : decode b_X_fallback 10 = .ok (.getfield 108, 3) := by decide +kernel
theorem d_X_fallback_13 : decode b_X_fallback 13 = .ok (.istore_n 2, 1) := by decide +kernel
theorem d_X_fallback_14 : decode b_X_fallback 14 = .ok (.aload_n 0, 1) := by decide +kernel
theorem d_X_fallback_15 : decode b_X_fallback 15 = .ok (.iload_n 1, 1) := by decide +kernel
theorem d_X_fallback_16 : decode b_X_fallback 16 = .ok (.putfield 108, 3) := by decide +kernel
theorem d_X_fallback_19 : decode b_X_fallback 19 = .ok (.iload_n 2, 1) := by decide +kernel
theorem d_X_fallback_20 : decode b_X_fallback 20 = .ok (.ireturn, 1) := by decide +kernel
theorem d_X_rules_0 : decode b_X_rules 0 = .ok (.aload_n 0, 1) := by decide +kernel
theorem d_X_rules_1 : decode b_X_rules 1 = .ok (.getfield 91, 3) := by decide +kernel
theorem d_X_rules_4 : decode b_X_rules 4 = .ok (.ireturn, 1) := by decide +kernel
theorem d_X_argument_0 : decode b_X_argument 0 = .ok (.iload_n 1, 1) := by decide +kernel
theorem d_X_argument_1 : decode b_X_argument 1 = .ok (.ifCond .eq 10, 3) := by decide +kernel
theorem d_X_argument_4 : decode b_X_argument 4 = .ok (.iload_n 1, 1) := by decide +kernel
theorem d_X_argument_5 : decode b_X_argument 5 = .ok (.iconst 1, 1) := by decide +kernel
theorem d_X_argument_6 : decode b_X_argument 6 = .ok (.if_icmp .eq 5, 3) := by decide +kernel
theorem d_X_argument_9 : decode b_X_argument 9 = .ok (.iconst (-1), 1) := by decide +kernel
theorem d_X_argument_10 : decode b_X_argument 10 = .ok (.ireturn, 1) := by decide +kernel
theorem d_X_argument_11 : decode b_X_argument 11 = .ok (.aload_n 0, 1) := by decide +kernel
theorem d_X_argument_12 : decode b_X_argument 12 = .ok (.getfield 68, 3) := by decide +kernel
theorem d_X_argument_15 : decode b_X_argument 15 = .ok (.iload_n 1, 1) := by decide +kernel
theorem d_X_argument_16 : decode b_X_argument 16 = .ok (.iload_n 2, 1) := by decide +kernel
theorem d_X_argument_17 : decode b_X_argument 17 = .ok (.iastore, 1) := by decide +kernel
theorem d_X_argument_18 : decode b_X_argument 18 = .ok (.iconst 0, 1) := by decide +kernel
theorem d_X_argument_19 : decode b_X_argument 19 = .ok (.ireturn, 1) := by decide +kernel
theorem d_X_decide_0 : decode b_X_decide 0 = .ok (.iload_n 1, 1) := by decide +kernel
theorem d_X_decide_1 : decode b_X_decide 1 = .ok (.invokestatic 84, 3) := by decide +kernel
theorem d_X_decide_4 : decode b_X_decide 4 = .ok (.ifCond .ne 5, 3) := by decide +kernel
theorem d_X_decide_7 : decode b_X_decide 7 = .ok (.iconst (-1), 1) := by decide +kernel
theorem d_X_decide_8 : decode b_X_decide 8 = .ok (.ireturn, 1) := by decide +kernel
theorem d_X_decide_9 : decode b_X_decide 9 = .ok (.aload_n 0, 1) := by decide +kernel
theorem d_X_decide_10 : decode b_X_decide 10 = .ok (.invokevirtual 111, 3) := by decide +kernel
theorem d_X_decide_13 : decode b_X_decide 13 = .ok (.aload_n 0, 1) := by decide +kernel
theorem d_X_decide_14 : decode b_X_decide 14 = .ok (.iload_n 1, 1) := by decide +kernel
theorem d_X_decide_15 : decode b_X_decide 15 = .ok (.invokevirtual 114, 3) := by decide +kernel
theorem d_X_decide_18 : decode b_X_decide 18 = .ok (.istore_n 2, 1) := by decide +kernel
theorem d_X_decide_19 : decode b_X_decide 19 = .ok (.aload_n 0, 1) := by decide +kernel
theorem d_X_decide_20 : decode b_X_decide 20 = .ok (.iload_n 2, 1) := by decide +kernel
theorem d_X_decide_21 : decode b_X_decide 21 = .ok (.invokevirtual 118, 3) := by decide +kernel
theorem d_X_decide_24 : decode b_X_decide 24 = .ok (.ireturn, 1) := by decide +kernel
theorem d_X_matched_0 : decode b_X_matched 0 = .ok (.iload_n 1, 1) := by decide +kernel
theorem d_X_matched_1 : decode b_X_matched 1 = .ok (.invokestatic 84, 3) := by decide +kernel
theorem d_X_matched_4 : decode b_X_matched 4 = .ok (.ifCond .ne 5, 3) := by decide +kernel
theorem d_X_matched_7 : decode b_X_matched 7 = .ok (.iconst (-1), 1) := by decide +kernel
theorem d_X_matched_8 : decode b_X_matched 8 = .ok (.ireturn, 1) := by decide +kernel
theorem d_X_matched_9 : decode b_X_matched 9 = .ok (.aload_n 0, 1) := by decide +kernel
theorem d_X_matched_10 : decode b_X_matched 10 = .ok (.invokevirtual 111, 3) := by decide +kernel
theorem d_X_matched_13 : decode b_X_matched 13 = .ok (.aload_n 0, 1) := by decide +kernel
theorem d_X_matched_14 : decode b_X_matched 14 = .ok (.iload_n 1, 1) := by decide +kernel
theorem d_X_matched_15 : decode b_X_matched 15 = .ok (.invokevirtual 114, 3) := by decide +kernel
theorem d_X_matched_18 : decode b_X_matched 18 = .ok (.istore_n 2, 1) := by decide +kernel
theorem d_X_matched_19 : decode b_X_matched 19 = .ok (.aload_n 0, 1) := by decide +kernel
theorem d_X_matched_20 : decode b_X_matched 20 = .ok (.aload_n 0, 1) := by decide +kernel
theorem d_X_matched_21 : decode b_X_matched 21 = .ok (.getfield 44, 3) := by decide +kernel
theorem d_X_matched_24 : decode b_X_matched 24 = .ok (.iload_n 2, 1) := by decide +kernel
theorem d_X_matched_25 : decode b_X_matched 25 = .ok (.iaload, 1) := by decide +kernel
theorem d_X_matched_26 : decode b_X_matched 26 = .ok (.invokevirtual 121, 3) := by decide +kernel
theorem d_X_matched_29 : decode b_X_matched 29 = .ok (.istore_n 3, 1) := by decide +kernel
theorem d_X_matched_30 : decode b_X_matched 30 = .ok (.iload_n 3, 1) := by decide +kernel
theorem d_X_matched_31 : decode b_X_matched 31 = .ok (.iconst (-1), 1) := by decide +kernel
theorem d_X_matched_32 : decode b_X_matched 32 = .ok (.if_icmp .ne 8, 3) := by decide +kernel
theorem d_X_matched_35 : decode b_X_matched 35 = .ok (.bipush (-2), 2) := by decide +kernel
theorem d_X_matched_37 : decode b_X_matched 37 = .ok (.goto 4, 3) := by decide +kernel
theorem d_X_matched_40 : decode b_X_matched 40 = .ok (.iload_n 3, 1) := by decide +kernel
theorem d_X_matched_41 : decode b_X_matched 41 = .ok (.ireturn, 1) := by decide +kernel
theorem d_X_countWith_0 : decode b_X_countWith 0 = .ok (.iload_n 2, 1) := by decide +kernel
theorem d_X_countWith_1 : decode b_X_countWith 1 = .ok (.invokestatic 84, 3) := by decide +kernel
theorem d_X_countWith_4 : decode b_X_countWith 4 = .ok (.ifCond .eq 10, 3) := by decide +kernel
theorem d_X_countWith_7 : decode b_X_countWith 7 = .ok (.iload_n 3, 1) := by decide +kernel
theorem d_X_countWith_8 : decode b_X_countWith 8 = .ok (.invokestatic 84, 3) := by decide +kernel
theorem d_X_countWith_11 : decode b_X_countWith 11 = .ok (.ifCond .ne 5, 3) := by decide +kernel
theorem d_X_countWith_14 : decode b_X_countWith 14 = .ok (.iconst (-1), 1) := by decide +kernel
theorem d_X_countWith_15 : decode b_X_countWith 15 = .ok (.ireturn, 1) := by decide +kernel
theorem d_X_countWith_16 : decode b_X_countWith 16 = .ok (.iload_n 2, 1) := by decide +kernel
theorem d_X_countWith_17 : decode b_X_countWith 17 = .ok (.iload_n 3, 1) := by decide +kernel
theorem d_X_countWith_18 : decode b_X_countWith 18 = .ok (.if_icmp .le 6, 3) := by decide +kernel
theorem d_X_countWith_21 : decode b_X_countWith 21 = .ok (.bipush (-2), 2) := by decide +kernel
theorem d_X_countWith_23 : decode b_X_countWith 23 = .ok (.ireturn, 1) := by decide +kernel
theorem d_X_countWith_24 : decode b_X_countWith 24 = .ok (.iload_n 1, 1) := by decide +kernel
theorem d_X_countWith_25 : decode b_X_countWith 25 = .ok (.invokestatic 94, 3) := by decide +kernel
theorem d_X_countWith_28 : decode b_X_countWith 28 = .ok (.ifCond .ne 6, 3) := by decide +kernel
theorem d_X_countWith_31 : decode b_X_countWith 31 = .ok (.bipush (-3), 2) := by decide +kernel
theorem d_X_countWith_33 : decode b_X_countWith 33 = .ok (.ireturn, 1) := by decide +kernel
theorem d_X_countWith_34 : decode b_X_countWith 34 = .ok (.aload_n 0, 1) := by decide +kernel
theorem d_X_countWith_35 : decode b_X_countWith 35 = .ok (.invokevirtual 111, 3) := by decide +kernel
theorem d_X_countWith_38 : decode b_X_countWith 38 = .ok (.iconst 0, 1) := by decide +kernel
theorem d_X_countWith_39 : decode b_X_countWith 39 = .ok (.istore 4, 2) := by decide +kernel
theorem d_X_countWith_41 : decode b_X_countWith 41 = .ok (.iconst 0, 1) := by decide +kernel
theorem d_X_countWith_42 : decode b_X_countWith 42 = .ok (.istore 5, 2) := by decide +kernel
theorem d_X_countWith_44 : decode b_X_countWith 44 = .ok (.iload 5, 2) := by decide +kernel
theorem d_X_countWith_46 : decode b_X_countWith 46 = .ok (.aload_n 0, 1) := by decide +kernel
theorem d_X_countWith_47 : decode b_X_countWith 47 = .ok (.getfield 124, 3) := by decide +kernel
theorem d_X_countWith_50 : decode b_X_countWith 50 = .ok (.if_icmp .ge 94, 3) := by decide +kernel
theorem d_X_countWith_53 : decode b_X_countWith 53 = .ok (.aload_n 0, 1) := by decide +kernel
theorem d_X_countWith_54 : decode b_X_countWith 54 = .ok (.getfield 41, 3) := by decide +kernel
theorem d_X_countWith_57 : decode b_X_countWith 57 = .ok (.iload 5, 2) := by decide +kernel
theorem d_X_countWith_59 : decode b_X_countWith 59 = .ok (.iaload, 1) := by decide +kernel
theorem d_X_countWith_60 : decode b_X_countWith 60 = .ok (.iload_n 2, 1) := by decide +kernel
theorem d_X_countWith_61 : decode b_X_countWith 61 = .ok (.if_icmp .le 13, 3) := by decide +kernel
theorem d_X_countWith_64 : decode b_X_countWith 64 = .ok (.aload_n 0, 1) := by decide +kernel
theorem d_X_countWith_65 : decode b_X_countWith 65 = .ok (.getfield 41, 3) := by decide +kernel
theorem d_X_countWith_68 : decode b_X_countWith 68 = .ok (.iload 5, 2) := by decide +kernel
theorem d_X_countWith_70 : decode b_X_countWith 70 = .ok (.iaload, 1) := by decide +kernel
theorem d_X_countWith_71 : decode b_X_countWith 71 = .ok (.goto 4, 3) := by decide +kernel
theorem d_X_countWith_74 : decode b_X_countWith 74 = .ok (.iload_n 2, 1) := by decide +kernel
theorem d_X_countWith_75 : decode b_X_countWith 75 = .ok (.istore 6, 2) := by decide +kernel
theorem d_X_countWith_77 : decode b_X_countWith 77 = .ok (.aload_n 0, 1) := by decide +kernel
theorem d_X_countWith_78 : decode b_X_countWith 78 = .ok (.getfield 41, 3) := by decide +kernel
theorem d_X_countWith_81 : decode b_X_countWith 81 = .ok (.iload 5, 2) := by decide +kernel
theorem d_X_countWith_83 : decode b_X_countWith 83 = .ok (.iconst 1, 1) := by decide +kernel
theorem d_X_countWith_84 : decode b_X_countWith 84 = .ok (.iadd, 1) := by decide +kernel
theorem d_X_countWith_85 : decode b_X_countWith 85 = .ok (.iaload, 1) := by decide +kernel
theorem d_X_countWith_86 : decode b_X_countWith 86 = .ok (.iconst 1, 1) := by decide +kernel
theorem d_X_countWith_87 : decode b_X_countWith 87 = .ok (.isub, 1) := by decide +kernel
theorem d_X_countWith_88 : decode b_X_countWith 88 = .ok (.iload_n 3, 1) := by decide +kernel
theorem d_X_countWith_89 : decode b_X_countWith 89 = .ok (.if_icmp .ge 17, 3) := by decide +kernel
theorem d_X_countWith_92 : decode b_X_countWith 92 = .ok (.aload_n 0, 1) := by decide +kernel
theorem d_X_countWith_93 : decode b_X_countWith 93 = .ok (.getfield 41, 3) := by decide +kernel
theorem d_X_countWith_96 : decode b_X_countWith 96 = .ok (.iload 5, 2) := by decide +kernel
theorem d_X_countWith_98 : decode b_X_countWith 98 = .ok (.iconst 1, 1) := by decide +kernel
theorem d_X_countWith_99 : decode b_X_countWith 99 = .ok (.iadd, 1) := by decide +kernel
theorem d_X_countWith_100 : decode b_X_countWith 100 = .ok (.iaload, 1) := by decide +kernel
theorem d_X_countWith_101 : decode b_X_countWith 101 = .ok (.iconst 1, 1) := by decide +kernel
theorem d_X_countWith_102 : decode b_X_countWith 102 = .ok (.isub, 1) := by decide +kernel
theorem d_X_countWith_103 : decode b_X_countWith 103 = .ok (.goto 4, 3) := by decide +kernel
theorem d_X_countWith_106 : decode b_X_countWith 106 = .ok (.iload_n 3, 1) := by decide +kernel
theorem d_X_countWith_107 : decode b_X_countWith 107 = .ok (.istore 7, 2) := by decide +kernel
theorem d_X_countWith_109 : decode b_X_countWith 109 = .ok (.iload 6, 2) := by decide +kernel
theorem d_X_countWith_111 : decode b_X_countWith 111 = .ok (.iload 7, 2) := by decide +kernel
theorem d_X_countWith_113 : decode b_X_countWith 113 = .ok (.if_icmp .gt 25, 3) := by decide +kernel
theorem d_X_countWith_116 : decode b_X_countWith 116 = .ok (.aload_n 0, 1) := by decide +kernel
theorem d_X_countWith_117 : decode b_X_countWith 117 = .ok (.iload 5, 2) := by decide +kernel
theorem d_X_countWith_119 : decode b_X_countWith 119 = .ok (.invokevirtual 118, 3) := by decide +kernel
theorem d_X_countWith_122 : decode b_X_countWith 122 = .ok (.iload_n 1, 1) := by decide +kernel
theorem d_X_countWith_123 : decode b_X_countWith 123 = .ok (.if_icmp .ne 15, 3) := by decide +kernel
theorem d_X_countWith_126 : decode b_X_countWith 126 = .ok (.iload 4, 2) := by decide +kernel
theorem d_X_countWith_128 : decode b_X_countWith 128 = .ok (.iload 7, 2) := by decide +kernel
theorem d_X_countWith_130 : decode b_X_countWith 130 = .ok (.iload 6, 2) := by decide +kernel
theorem d_X_countWith_132 : decode b_X_countWith 132 = .ok (.isub, 1) := by decide +kernel
theorem d_X_countWith_133 : decode b_X_countWith 133 = .ok (.iconst 1, 1) := by decide +kernel
theorem d_X_countWith_134 : decode b_X_countWith 134 = .ok (.iadd, 1) := by decide +kernel
theorem d_X_countWith_135 : decode b_X_countWith 135 = .ok (.iadd, 1) := by decide +kernel
theorem d_X_countWith_136 : decode b_X_countWith 136 = .ok (.istore 4, 2) := by decide +kernel
theorem d_X_countWith_138 : decode b_X_countWith 138 = .ok (.iinc 5 1, 3) := by decide +kernel
theorem d_X_countWith_141 : decode b_X_countWith 141 = .ok (.goto (-97), 3) := by decide +kernel
theorem d_X_countWith_144 : decode b_X_countWith 144 = .ok (.iload 4, 2) := by decide +kernel
theorem d_X_countWith_146 : decode b_X_countWith 146 = .ok (.ireturn, 1) := by decide +kernel
theorem d_X_nextWith_0 : decode b_X_nextWith 0 = .ok (.iload_n 1, 1) := by decide +kernel
theorem d_X_nextWith_1 : decode b_X_nextWith 1 = .ok (.invokestatic 94, 3) := by decide +kernel
theorem d_X_nextWith_4 : decode b_X_nextWith 4 = .ok (.ifCond .ne 5, 3) := by decide +kernel
theorem d_X_nextWith_7 : decode b_X_nextWith 7 = .ok (.iconst (-1), 1) := by decide +kernel
theorem d_X_nextWith_8 : decode b_X_nextWith 8 = .ok (.ireturn, 1) := by decide +kernel
theorem d_X_nextWith_9 : decode b_X_nextWith 9 = .ok (.iload_n 2, 1) := by decide +kernel
theorem d_X_nextWith_10 : decode b_X_nextWith 10 = .ok (.invokestatic 84, 3) := by decide +kernel
theorem d_X_nextWith_13 : decode b_X_nextWith 13 = .ok (.ifCond .ne 6, 3) := by decide +kernel
theorem d_X_nextWith_16 : decode b_X_nextWith 16 = .ok (.bipush (-2), 2) := by decide +kernel
theorem d_X_nextWith_18 : decode b_X_nextWith 18 = .ok (.ireturn, 1) := by decide +kernel
theorem d_X_nextWith_19 : decode b_X_nextWith 19 = .ok (.aload_n 0, 1) := by decide +kernel
theorem d_X_nextWith_20 : decode b_X_nextWith 20 = .ok (.invokevirtual 111, 3) := by decide +kernel
theorem d_X_nextWith_23 : decode b_X_nextWith 23 = .ok (.aload_n 0, 1) := by decide +kernel
theorem d_X_nextWith_24 : decode b_X_nextWith 24 = .ok (.iload_n 2, 1) := by decide +kernel
theorem d_X_nextWith_25 : decode b_X_nextWith 25 = .ok (.invokevirtual 114, 3) := by decide +kernel
theorem d_X_nextWith_28 : decode b_X_nextWith 28 = .ok (.istore_n 3, 1) := by decide +kernel
theorem d_X_nextWith_29 : decode b_X_nextWith 29 = .ok (.iload_n 3, 1) := by decide +kernel
theorem d_X_nextWith_30 : decode b_X_nextWith 30 = .ok (.istore 4, 2) := by decide +kernel
theorem d_X_nextWith_32 : decode b_X_nextWith 32 = .ok (.iload 4, 2) := by decide +kernel
theorem d_X_nextWith_34 : decode b_X_nextWith 34 = .ok (.aload_n 0, 1) := by decide +kernel
theorem d_X_nextWith_35 : decode b_X_nextWith 35 = .ok (.getfield 124, 3) := by decide +kernel
theorem d_X_nextWith_38 : decode b_X_nextWith 38 = .ok (.if_icmp .ge 42, 3) := by decide +kernel
theorem d_X_nextWith_41 : decode b_X_nextWith 41 = .ok (.aload_n 0, 1) := by decide +kernel
theorem d_X_nextWith_42 : decode b_X_nextWith 42 = .ok (.iload 4, 2) := by decide +kernel
theorem d_X_nextWith_44 : decode b_X_nextWith 44 = .ok (.invokevirtual 118, 3) := by decide +kernel
theorem d_X_nextWith_47 : decode b_X_nextWith 47 = .ok (.iload_n 1, 1) := by decide +kernel
theorem d_X_nextWith_48 : decode b_X_nextWith 48 = .ok (.if_icmp .ne 26, 3) := by decide +kernel
theorem d_X_nextWith_51 : decode b_X_nextWith 51 = .ok (.aload_n 0, 1) := by decide +kernel
theorem d_X_nextWith_52 : decode b_X_nextWith 52 = .ok (.getfield 41, 3) := by decide +kernel
theorem d_X_nextWith_55 : decode b_X_nextWith 55 = .ok (.iload 4, 2) := by decide +kernel
theorem d_X_nextWith_57 : decode b_X_nextWith 57 = .ok (.iaload, 1) := by decide +kernel
theorem d_X_nextWith_58 : decode b_X_nextWith 58 = .ok (.iload_n 2, 1) := by decide +kernel
theorem d_X_nextWith_59 : decode b_X_nextWith 59 = .ok (.if_icmp .le 13, 3) := by decide +kernel
theorem d_X_nextWith_62 : decode b_X_nextWith 62 = .ok (.aload_n 0, 1) := by decide +kernel
theorem d_X_nextWith_63 : decode b_X_nextWith 63 = .ok (.getfield 41, 3) := by decide +kernel
theorem d_X_nextWith_66 : decode b_X_nextWith 66 = .ok (.iload 4, 2) := by decide +kernel
theorem d_X_nextWith_68 : decode b_X_nextWith 68 = .ok (.iaload, 1) := by decide +kernel
theorem d_X_nextWith_69 : decode b_X_nextWith 69 = .ok (.goto 4, 3) := by decide +kernel
theorem d_X_nextWith_72 : decode b_X_nextWith 72 = .ok (.iload_n 2, 1) := by decide +kernel
theorem d_X_nextWith_73 : decode b_X_nextWith 73 = .ok (.ireturn, 1) := by decide +kernel
theorem d_X_nextWith_74 : decode b_X_nextWith 74 = .ok (.iinc 4 1, 3) := by decide +kernel
theorem d_X_nextWith_77 : decode b_X_nextWith 77 = .ok (.goto (-45), 3) := by decide +kernel
theorem d_X_nextWith_80 : decode b_X_nextWith 80 = .ok (.bipush (-3), 2) := by decide +kernel
theorem d_X_nextWith_82 : decode b_X_nextWith 82 = .ok (.ireturn, 1) := by decide +kernel
theorem d_X_matching_0 : decode b_X_matching 0 = .ok (.iload_n 1, 1) := by decide +kernel
theorem d_X_matching_1 : decode b_X_matching 1 = .ok (.invokestatic 84, 3) := by decide +kernel
theorem d_X_matching_4 : decode b_X_matching 4 = .ok (.ifCond .ne 5, 3) := by decide +kernel
theorem d_X_matching_7 : decode b_X_matching 7 = .ok (.iconst (-1), 1) := by decide +kernel
theorem d_X_matching_8 : decode b_X_matching 8 = .ok (.ireturn, 1) := by decide +kernel
theorem d_X_matching_9 : decode b_X_matching 9 = .ok (.aload_n 0, 1) := by decide +kernel
theorem d_X_matching_10 : decode b_X_matching 10 = .ok (.invokevirtual 111, 3) := by decide +kernel
theorem d_X_matching_13 : decode b_X_matching 13 = .ok (.iconst 0, 1) := by decide +kernel
theorem d_X_matching_14 : decode b_X_matching 14 = .ok (.istore_n 2, 1) := by decide +kernel
theorem d_X_matching_15 : decode b_X_matching 15 = .ok (.iconst 0, 1) := by decide +kernel
theorem d_X_matching_16 : decode b_X_matching 16 = .ok (.istore_n 3, 1) := by decide +kernel
theorem d_X_matching_17 : decode b_X_matching 17 = .ok (.iload_n 3, 1) := by decide +kernel
theorem d_X_matching_18 : decode b_X_matching 18 = .ok (.aload_n 0, 1) := by decide +kernel
theorem d_X_matching_19 : decode b_X_matching 19 = .ok (.getfield 91, 3) := by decide +kernel
theorem d_X_matching_22 : decode b_X_matching 22 = .ok (.if_icmp .ge 34, 3) := by decide +kernel
theorem d_X_matching_25 : decode b_X_matching 25 = .ok (.aload_n 0, 1) := by decide +kernel
theorem d_X_matching_26 : decode b_X_matching 26 = .ok (.getfield 38, 3) := by decide +kernel
theorem d_X_matching_29 : decode b_X_matching 29 = .ok (.iload_n 1, 1) := by decide +kernel
theorem d_X_matching_30 : decode b_X_matching 30 = .ok (.iaload, 1) := by decide +kernel
theorem d_X_matching_31 : decode b_X_matching 31 = .ok (.iload_n 3, 1) := by decide +kernel
theorem d_X_matching_32 : decode b_X_matching 32 = .ok (.ishr, 1) := by decide +kernel
theorem d_X_matching_33 : decode b_X_matching 33 = .ok (.iconst 1, 1) := by decide +kernel
theorem d_X_matching_34 : decode b_X_matching 34 = .ok (.iand, 1) := by decide +kernel
theorem d_X_matching_35 : decode b_X_matching 35 = .ok (.iconst 1, 1) := by decide +kernel
theorem d_X_matching_36 : decode b_X_matching 36 = .ok (.if_icmp .ne 14, 3) := by decide +kernel
theorem d_X_matching_39 : decode b_X_matching 39 = .ok (.aload_n 0, 1) := by decide +kernel
theorem d_X_matching_40 : decode b_X_matching 40 = .ok (.iload_n 3, 1) := by decide +kernel
theorem d_X_matching_41 : decode b_X_matching 41 = .ok (.invokevirtual 127, 3) := by decide +kernel
theorem d_X_matching_44 : decode b_X_matching 44 = .ok (.ifCond .eq 6, 3) := by decide +kernel
theorem d_X_matching_47 : decode b_X_matching 47 = .ok (.iinc 2 1, 3) := by decide +kernel
theorem d_X_matching_50 : decode b_X_matching 50 = .ok (.iinc 3 1, 3) := by decide +kernel
theorem d_X_matching_53 : decode b_X_matching 53 = .ok (.goto (-36), 3) := by decide +kernel
theorem d_X_matching_56 : decode b_X_matching 56 = .ok (.iload_n 2, 1) := by decide +kernel
theorem d_X_matching_57 : decode b_X_matching 57 = .ok (.ireturn, 1) := by decide +kernel
end
section
-- decode rows, by names.py
theorem d_X_hidden_0 : decode b_X_hidden 0 = .ok (.aload_n 0, 1) := by decide +kernel
theorem d_X_hidden_1 : decode b_X_hidden 1 = .ok (.iload_n 1, 1) := by decide +kernel
theorem d_X_hidden_2 : decode b_X_hidden 2 = .ok (.invokevirtual 105, 3) := by decide +kernel
theorem d_X_hidden_5 : decode b_X_hidden 5 = .ok (.ifCond .ne 5, 3) := by decide +kernel
theorem d_X_hidden_8 : decode b_X_hidden 8 = .ok (.iconst (-1), 1) := by decide +kernel
theorem d_X_hidden_9 : decode b_X_hidden 9 = .ok (.ireturn, 1) := by decide +kernel
theorem d_X_hidden_10 : decode b_X_hidden 10 = .ok (.aload_n 0, 1) := by decide +kernel
theorem d_X_hidden_11 : decode b_X_hidden 11 = .ok (.invokevirtual 111, 3) := by decide +kernel
theorem d_X_hidden_14 : decode b_X_hidden 14 = .ok (.aload_n 0, 1) := by decide +kernel
theorem d_X_hidden_15 : decode b_X_hidden 15 = .ok (.getfield 130, 3) := by decide +kernel
theorem d_X_hidden_18 : decode b_X_hidden 18 = .ok (.iconst 1, 1) := by decide +kernel
theorem d_X_hidden_19 : decode b_X_hidden 19 = .ok (.iload_n 1, 1) := by decide +kernel
theorem d_X_hidden_20 : decode b_X_hidden 20 = .ok (.ishl, 1) := by decide +kernel
theorem d_X_hidden_21 : decode b_X_hidden 21 = .ok (.iconst 1, 1) := by decide +kernel
theorem d_X_hidden_22 : decode b_X_hidden 22 = .ok (.isub, 1) := by decide +kernel
theorem d_X_hidden_23 : decode b_X_hidden 23 = .ok (.iand, 1) := by decide +kernel
theorem d_X_hidden_24 : decode b_X_hidden 24 = .ok (.istore_n 2, 1) := by decide +kernel
theorem d_X_hidden_25 : decode b_X_hidden 25 = .ok (.iconst 0, 1) := by decide +kernel
theorem d_X_hidden_26 : decode b_X_hidden 26 = .ok (.istore_n 3, 1) := by decide +kernel
theorem d_X_hidden_27 : decode b_X_hidden 27 = .ok (.iload_n 3, 1) := by decide +kernel
theorem d_X_hidden_28 : decode b_X_hidden 28 = .ok (.aload_n 0, 1) := by decide +kernel
theorem d_X_hidden_29 : decode b_X_hidden 29 = .ok (.getfield 124, 3) := by decide +kernel
theorem d_X_hidden_32 : decode b_X_hidden 32 = .ok (.if_icmp .ge 41, 3) := by decide +kernel
theorem d_X_hidden_35 : decode b_X_hidden 35 = .ok (.aload_n 0, 1) := by decide +kernel
theorem d_X_hidden_36 : decode b_X_hidden 36 = .ok (.getfield 38, 3) := by decide +kernel
theorem d_X_hidden_39 : decode b_X_hidden 39 = .ok (.aload_n 0, 1) := by decide +kernel
theorem d_X_hidden_40 : decode b_X_hidden 40 = .ok (.getfield 41, 3) := by decide +kernel
theorem d_X_hidden_43 : decode b_X_hidden 43 = .ok (.iload_n 3, 1) := by decide +kernel
theorem d_X_hidden_44 : decode b_X_hidden 44 = .ok (.iaload, 1) := by decide +kernel
theorem d_X_hidden_45 : decode b_X_hidden 45 = .ok (.iaload, 1) := by decide +kernel
theorem d_X_hidden_46 : decode b_X_hidden 46 = .ok (.istore 4, 2) := by decide +kernel
theorem d_X_hidden_48 : decode b_X_hidden 48 = .ok (.iload 4, 2) := by decide +kernel
theorem d_X_hidden_50 : decode b_X_hidden 50 = .ok (.iload_n 1, 1) := by decide +kernel
theorem d_X_hidden_51 : decode b_X_hidden 51 = .ok (.ishr, 1) := by decide +kernel
theorem d_X_hidden_52 : decode b_X_hidden 52 = .ok (.iconst 1, 1) := by decide +kernel
theorem d_X_hidden_53 : decode b_X_hidden 53 = .ok (.iand, 1) := by decide +kernel
theorem d_X_hidden_54 : decode b_X_hidden 54 = .ok (.iconst 1, 1) := by decide +kernel
theorem d_X_hidden_55 : decode b_X_hidden 55 = .ok (.if_icmp .ne 12, 3) := by decide +kernel
theorem d_X_hidden_58 : decode b_X_hidden 58 = .ok (.iload 4, 2) := by decide +kernel
theorem d_X_hidden_60 : decode b_X_hidden 60 = .ok (.iload_n 2, 1) := by decide +kernel
theorem d_X_hidden_61 : decode b_X_hidden 61 = .ok (.iand, 1) := by decide +kernel
theorem d_X_hidden_62 : decode b_X_hidden 62 = .ok (.ifCond .ne 5, 3) := by decide +kernel
theorem d_X_hidden_65 : decode b_X_hidden 65 = .ok (.iconst 0, 1) := by decide +kernel
theorem d_X_hidden_66 : decode b_X_hidden 66 = .ok (.ireturn, 1) := by decide +kernel
theorem d_X_hidden_67 : decode b_X_hidden 67 = .ok (.iinc 3 1, 3) := by decide +kernel
theorem d_X_hidden_70 : decode b_X_hidden 70 = .ok (.goto (-43), 3) := by decide +kernel
theorem d_X_hidden_73 : decode b_X_hidden 73 = .ok (.iconst 1, 1) := by decide +kernel
theorem d_X_hidden_74 : decode b_X_hidden 74 = .ok (.ireturn, 1) := by decide +kernel
theorem d_X_stretches_0 : decode b_X_stretches 0 = .ok (.aload_n 0, 1) := by decide +kernel
theorem d_X_stretches_1 : decode b_X_stretches 1 = .ok (.invokevirtual 111, 3) := by decide +kernel
theorem d_X_stretches_4 : decode b_X_stretches 4 = .ok (.aload_n 0, 1) := by decide +kernel
theorem d_X_stretches_5 : decode b_X_stretches 5 = .ok (.getfield 124, 3) := by decide +kernel
theorem d_X_stretches_8 : decode b_X_stretches 8 = .ok (.ireturn, 1) := by decide +kernel
theorem d_X_open_0 : decode b_X_open 0 = .ok (.aload_n 0, 1) := by decide +kernel
theorem d_X_open_1 : decode b_X_open 1 = .ok (.invokevirtual 111, 3) := by decide +kernel
theorem d_X_open_4 : decode b_X_open 4 = .ok (.iconst 0, 1) := by decide +kernel
theorem d_X_open_5 : decode b_X_open 5 = .ok (.istore_n 1, 1) := by decide +kernel
theorem d_X_open_6 : decode b_X_open 6 = .ok (.iconst 0, 1) := by decide +kernel
theorem d_X_open_7 : decode b_X_open 7 = .ok (.istore_n 2, 1) := by decide +kernel
theorem d_X_open_8 : decode b_X_open 8 = .ok (.iload_n 2, 1) := by decide +kernel
theorem d_X_open_9 : decode b_X_open 9 = .ok (.aload_n 0, 1) := by decide +kernel
theorem d_X_open_10 : decode b_X_open 10 = .ok (.getfield 124, 3) := by decide +kernel
theorem d_X_open_13 : decode b_X_open 13 = .ok (.if_icmp .ge 41, 3) := by decide +kernel
theorem d_X_open_16 : decode b_X_open 16 = .ok (.aload_n 0, 1) := by decide +kernel
theorem d_X_open_17 : decode b_X_open 17 = .ok (.getfield 38, 3) := by decide +kernel
theorem d_X_open_20 : decode b_X_open 20 = .ok (.aload_n 0, 1) := by decide +kernel
theorem d_X_open_21 : decode b_X_open 21 = .ok (.getfield 41, 3) := by decide +kernel
theorem d_X_open_24 : decode b_X_open 24 = .ok (.iload_n 2, 1) := by decide +kernel
theorem d_X_open_25 : decode b_X_open 25 = .ok (.iaload, 1) := by decide +kernel
theorem d_X_open_26 : decode b_X_open 26 = .ok (.iaload, 1) := by decide +kernel
theorem d_X_open_27 : decode b_X_open 27 = .ok (.ifCond .ne 21, 3) := by decide +kernel
theorem d_X_open_30 : decode b_X_open 30 = .ok (.iload_n 1, 1) := by decide +kernel
theorem d_X_open_31 : decode b_X_open 31 = .ok (.aload_n 0, 1) := by decide +kernel
theorem d_X_open_32 : decode b_X_open 32 = .ok (.getfield 41, 3) := by decide +kernel
theorem d_X_open_35 : decode b_X_open 35 = .ok (.iload_n 2, 1) := by decide +kernel
theorem d_X_open_36 : decode b_X_open 36 = .ok (.iconst 1, 1) := by decide +kernel
theorem d_X_open_37 : decode b_X_open 37 = .ok (.iadd, 1) := by decide +kernel
theorem d_X_open_38 : decode b_X_open 38 = .ok (.iaload, 1) := by decide +kernel
theorem d_X_open_39 : decode b_X_open 39 = .ok (.aload_n 0, 1) := by decide +kernel
theorem d_X_open_40 : decode b_X_open 40 = .ok (.getfield 41, 3) := by decide +kernel
theorem d_X_open_43 : decode b_X_open 43 = .ok (.iload_n 2, 1) := by decide +kernel
theorem d_X_open_44 : decode b_X_open 44 = .ok (.iaload, 1) := by decide +kernel
theorem d_X_open_45 : decode b_X_open 45 = .ok (.isub, 1) := by decide +kernel
theorem d_X_open_46 : decode b_X_open 46 = .ok (.iadd, 1) := by decide +kernel
theorem d_X_open_47 : decode b_X_open 47 = .ok (.istore_n 1, 1) := by decide +kernel
theorem d_X_open_48 : decode b_X_open 48 = .ok (.iinc 2 1, 3) := by decide +kernel
theorem d_X_open_51 : decode b_X_open 51 = .ok (.goto (-43), 3) := by decide +kernel
theorem d_X_open_54 : decode b_X_open 54 = .ok (.iload_n 1, 1) := by decide +kernel
theorem d_X_open_55 : decode b_X_open 55 = .ok (.ireturn, 1) := by decide +kernel
theorem d_X_isNumber_0 : decode b_X_isNumber 0 = .ok (.iload_n 0, 1) := by decide +kernel
theorem d_X_isNumber_1 : decode b_X_isNumber 1 = .ok (.ifCond .lt 13, 3) := by decide +kernel
theorem d_X_isNumber_4 : decode b_X_isNumber 4 = .ok (.iload_n 0, 1) := by decide +kernel
theorem d_X_isNumber_5 : decode b_X_isNumber 5 = .ok (.bipush 32, 2) := by decide +kernel
theorem d_X_isNumber_7 : decode b_X_isNumber 7 = .ok (.if_icmp .ge 7, 3) := by decide +kernel
theorem d_X_isNumber_10 : decode b_X_isNumber 10 = .ok (.iconst 1, 1) := by decide +kernel
theorem d_X_isNumber_11 : decode b_X_isNumber 11 = .ok (.goto 4, 3) := by decide +kernel
theorem d_X_isNumber_14 : decode b_X_isNumber 14 = .ok (.iconst 0, 1) := by decide +kernel
theorem d_X_isNumber_15 : decode b_X_isNumber 15 = .ok (.ireturn, 1) := by decide +kernel
theorem d_X_isAction_0 : decode b_X_isAction 0 = .ok (.iload_n 0, 1) := by decide +kernel
theorem d_X_isAction_1 : decode b_X_isAction 1 = .ok (.ifCond .lt 12, 3) := by decide +kernel
theorem d_X_isAction_4 : decode b_X_isAction 4 = .ok (.iload_n 0, 1) := by decide +kernel
theorem d_X_isAction_5 : decode b_X_isAction 5 = .ok (.iconst 3, 1) := by decide +kernel
theorem d_X_isAction_6 : decode b_X_isAction 6 = .ok (.if_icmp .gt 7, 3) := by decide +kernel
theorem d_X_isAction_9 : decode b_X_isAction 9 = .ok (.iconst 1, 1) := by decide +kernel
theorem d_X_isAction_10 : decode b_X_isAction 10 = .ok (.goto 4, 3) := by decide +kernel
theorem d_X_isAction_13 : decode b_X_isAction 13 = .ok (.iconst 0, 1) := by decide +kernel
theorem d_X_isAction_14 : decode b_X_isAction 14 = .ok (.ireturn, 1) := by decide +kernel
theorem d_X_isRule_0 : decode b_X_isRule 0 = .ok (.iload_n 1, 1) := by decide +kernel
theorem d_X_isRule_1 : decode b_X_isRule 1 = .ok (.ifCond .lt 15, 3) := by decide +kernel
theorem d_X_isRule_4 : decode b_X_isRule 4 = .ok (.iload_n 1, 1) := by decide +kernel
theorem d_X_isRule_5 : decode b_X_isRule 5 = .ok (.aload_n 0, 1) := by decide +kernel
theorem d_X_isRule_6 : decode b_X_isRule 6 = .ok (.getfield 91, 3) := by decide +kernel
theorem d_X_isRule_9 : decode b_X_isRule 9 = .ok (.if_icmp .ge 7, 3) := by decide +kernel
theorem d_X_isRule_12 : decode b_X_isRule 12 = .ok (.iconst 1, 1) := by decide +kernel
theorem d_X_isRule_13 : decode b_X_isRule 13 = .ok (.goto 4, 3) := by decide +kernel
theorem d_X_isRule_16 : decode b_X_isRule 16 = .ok (.iconst 0, 1) := by decide +kernel
theorem d_X_isRule_17 : decode b_X_isRule 17 = .ok (.ireturn, 1) := by decide +kernel
theorem d_X_carry_0 : decode b_X_carry 0 = .ok (.aload_n 0, 1) := by decide +kernel
theorem d_X_carry_1 : decode b_X_carry 1 = .ok (.getfield 7, 3) := by decide +kernel
theorem d_X_carry_4 : decode b_X_carry 4 = .ok (.iload_n 2, 1) := by decide +kernel
theorem d_X_carry_5 : decode b_X_carry 5 = .ok (.aload_n 0, 1) := by decide +kernel
theorem d_X_carry_6 : decode b_X_carry 6 = .ok (.getfield 7, 3) := by decide +kernel
theorem d_X_carry_9 : decode b_X_carry 9 = .ok (.iload_n 1, 1) := by decide +kernel
theorem d_X_carry_10 : decode b_X_carry 10 = .ok (.iaload, 1) := by decide +kernel
theorem d_X_carry_11 : decode b_X_carry 11 = .ok (.iastore, 1) := by decide +kernel
theorem d_X_carry_12 : decode b_X_carry 12 = .ok (.aload_n 0, 1) := by decide +kernel
theorem d_X_carry_13 : decode b_X_carry 13 = .ok (.getfield 13, 3) := by decide +kernel
theorem d_X_carry_16 : decode b_X_carry 16 = .ok (.iload_n 2, 1) := by decide +kernel
theorem d_X_carry_17 : decode b_X_carry 17 = .ok (.aload_n 0, 1) := by decide +kernel
theorem d_X_carry_18 : decode b_X_carry 18 = .ok (.getfield 13, 3) := by decide +kernel
theorem d_X_carry_21 : decode b_X_carry 21 = .ok (.iload_n 1, 1) := by decide +kernel
theorem d_X_carry_22 : decode b_X_carry 22 = .ok (.iaload, 1) := by decide +kernel
theorem d_X_carry_23 : decode b_X_carry 23 = .ok (.iastore, 1) := by decide +kernel
theorem d_X_carry_24 : decode b_X_carry 24 = .ok (.aload_n 0, 1) := by decide +kernel
theorem d_X_carry_25 : decode b_X_carry 25 = .ok (.getfield 25, 3) := by decide +kernel
theorem d_X_carry_28 : decode b_X_carry 28 = .ok (.iload_n 2, 1) := by decide +kernel
theorem d_X_carry_29 : decode b_X_carry 29 = .ok (.aload_n 0, 1) := by decide +kernel
theorem d_X_carry_30 : decode b_X_carry 30 = .ok (.getfield 25, 3) := by decide +kernel
theorem d_X_carry_33 : decode b_X_carry 33 = .ok (.iload_n 1, 1) := by decide +kernel
theorem d_X_carry_34 : decode b_X_carry 34 = .ok (.iaload, 1) := by decide +kernel
theorem d_X_carry_35 : decode b_X_carry 35 = .ok (.iastore, 1) := by decide +kernel
theorem d_X_carry_36 : decode b_X_carry 36 = .ok (.iconst 0, 1) := by decide +kernel
theorem d_X_carry_37 : decode b_X_carry 37 = .ok (.istore_n 3, 1) := by decide +kernel
theorem d_X_carry_38 : decode b_X_carry 38 = .ok (.iload_n 3, 1) := by decide +kernel
theorem d_X_carry_39 : decode b_X_carry 39 = .ok (.iconst 2, 1) := by decide +kernel
theorem d_X_carry_40 : decode b_X_carry 40 = .ok (.if_icmp .ge 69, 3) := by decide +kernel
theorem d_X_carry_43 : decode b_X_carry 43 = .ok (.aload_n 0, 1) := by decide +kernel
theorem d_X_carry_44 : decode b_X_carry 44 = .ok (.getfield 16, 3) := by decide +kernel
theorem d_X_carry_47 : decode b_X_carry 47 = .ok (.iconst 2, 1) := by decide +kernel
theorem d_X_carry_48 : decode b_X_carry 48 = .ok (.iload_n 2, 1) := by decide +kernel
theorem d_X_carry_49 : decode b_X_carry 49 = .ok (.imul, 1) := by decide +kernel
theorem d_X_carry_50 : decode b_X_carry 50 = .ok (.iload_n 3, 1) := by decide +kernel
theorem d_X_carry_51 : decode b_X_carry 51 = .ok (.iadd, 1) := by decide +kernel
theorem d_X_carry_52 : decode b_X_carry 52 = .ok (.aload_n 0, 1) := by decide +kernel
theorem d_X_carry_53 : decode b_X_carry 53 = .ok (.getfield 16, 3) := by decide +kernel
theorem d_X_carry_56 : decode b_X_carry 56 = .ok (.iconst 2, 1) := by decide +kernel
theorem d_X_carry_57 : decode b_X_carry 57 = .ok (.iload_n 1, 1) := by decide +kernel
theorem d_X_carry_58 : decode b_X_carry 58 = .ok (.imul, 1) := by decide +kernel
theorem d_X_carry_59 : decode b_X_carry 59 = .ok (.iload_n 3, 1) := by decide +kernel
theorem d_X_carry_60 : decode b_X_carry 60 = .ok (.iadd, 1) := by decide +kernel
theorem d_X_carry_61 : decode b_X_carry 61 = .ok (.iaload, 1) := by decide +kernel
theorem d_X_carry_62 : decode b_X_carry 62 = .ok (.iastore, 1) := by decide +kernel
theorem d_X_carry_63 : decode b_X_carry 63 = .ok (.aload_n 0, 1) := by decide +kernel
theorem d_X_carry_64 : decode b_X_carry 64 = .ok (.getfield 19, 3) := by decide +kernel
theorem d_X_carry_67 : decode b_X_carry 67 = .ok (.iconst 2, 1) := by decide +kernel
theorem d_X_carry_68 : decode b_X_carry 68 = .ok (.iload_n 2, 1) := by decide +kernel
theorem d_X_carry_69 : decode b_X_carry 69 = .ok (.imul, 1) := by decide +kernel
theorem d_X_carry_70 : decode b_X_carry 70 = .ok (.iload_n 3, 1) := by decide +kernel
theorem d_X_carry_71 : decode b_X_carry 71 = .ok (.iadd, 1) := by decide +kernel
theorem d_X_carry_72 : decode b_X_carry 72 = .ok (.aload_n 0, 1) := by decide +kernel
theorem d_X_carry_73 : decode b_X_carry 73 = .ok (.getfield 19, 3) := by decide +kernel
theorem d_X_carry_76 : decode b_X_carry 76 = .ok (.iconst 2, 1) := by decide +kernel
theorem d_X_carry_77 : decode b_X_carry 77 = .ok (.iload_n 1, 1) := by decide +kernel
theorem d_X_carry_78 : decode b_X_carry 78 = .ok (.imul, 1) := by decide +kernel
theorem d_X_carry_79 : decode b_X_carry 79 = .ok (.iload_n 3, 1) := by decide +kernel
theorem d_X_carry_80 : decode b_X_carry 80 = .ok (.iadd, 1) := by decide +kernel
theorem d_X_carry_81 : decode b_X_carry 81 = .ok (.iaload, 1) := by decide +kernel
theorem d_X_carry_82 : decode b_X_carry 82 = .ok (.iastore, 1) := by decide +kernel
theorem d_X_carry_83 : decode b_X_carry 83 = .ok (.aload_n 0, 1) := by decide +kernel
theorem d_X_carry_84 : decode b_X_carry 84 = .ok (.getfield 22, 3) := by decide +kernel
theorem d_X_carry_87 : decode b_X_carry 87 = .ok (.iconst 2, 1) := by decide +kernel
theorem d_X_carry_88 : decode b_X_carry 88 = .ok (.iload_n 2, 1) := by decide +kernel
theorem d_X_carry_89 : decode b_X_carry 89 = .ok (.imul, 1) := by decide +kernel
theorem d_X_carry_90 : decode b_X_carry 90 = .ok (.iload_n 3, 1) := by decide +kernel
theorem d_X_carry_91 : decode b_X_carry 91 = .ok (.iadd, 1) := by decide +kernel
theorem d_X_carry_92 : decode b_X_carry 92 = .ok (.aload_n 0, 1) := by decide +kernel
theorem d_X_carry_93 : decode b_X_carry 93 = .ok (.getfield 22, 3) := by decide +kernel
theorem d_X_carry_96 : decode b_X_carry 96 = .ok (.iconst 2, 1) := by decide +kernel
theorem d_X_carry_97 : decode b_X_carry 97 = .ok (.iload_n 1, 1) := by decide +kernel
theorem d_X_carry_98 : decode b_X_carry 98 = .ok (.imul, 1) := by decide +kernel
theorem d_X_carry_99 : decode b_X_carry 99 = .ok (.iload_n 3, 1) := by decide +kernel
theorem d_X_carry_100 : decode b_X_carry 100 = .ok (.iadd, 1) := by decide +kernel
theorem d_X_carry_101 : decode b_X_carry 101 = .ok (.iaload, 1) := by decide +kernel
theorem d_X_carry_102 : decode b_X_carry 102 = .ok (.iastore, 1) := by decide +kernel
theorem d_X_carry_103 : decode b_X_carry 103 = .ok (.iinc 3 1, 3) := by decide +kernel
theorem d_X_carry_106 : decode b_X_carry 106 = .ok (.goto (-68), 3) := by decide +kernel
theorem d_X_carry_109 : decode b_X_carry 109 = .ok (.return_, 1) := by decide +kernel
theorem d_X_compile_0 : decode b_X_compile 0 = .ok (.aload_n 0, 1) := by decide +kernel
theorem d_X_compile_1 : decode b_X_compile 1 = .ok (.getfield 101, 3) := by decide +kernel
theorem d_X_compile_4 : decode b_X_compile 4 = .ok (.ifCond .eq 4, 3) := by decide +kernel
theorem d_X_compile_7 : decode b_X_compile 7 = .ok (.return_, 1) := by decide +kernel
theorem d_X_compile_8 : decode b_X_compile 8 = .ok (.aload_n 0, 1) := by decide +kernel
theorem d_X_compile_9 : decode b_X_compile 9 = .ok (.iconst 1, 1) := by decide +kernel
theorem d_X_compile_10 : decode b_X_compile 10 = .ok (.putfield 101, 3) := by decide +kernel
theorem d_X_compile_13 : decode b_X_compile 13 = .ok (.aload_n 0, 1) := by decide +kernel
theorem d_X_compile_14 : decode b_X_compile 14 = .ok (.iconst 0, 1) := by decide +kernel
theorem d_X_compile_15 : decode b_X_compile 15 = .ok (.putfield 130, 3) := by decide +kernel
theorem d_X_compile_18 : decode b_X_compile 18 = .ok (.iconst 0, 1) := by decide +kernel
theorem d_X_compile_19 : decode b_X_compile 19 = .ok (.istore_n 1, 1) := by decide +kernel
theorem d_X_compile_20 : decode b_X_compile 20 = .ok (.iload_n 1, 1) := by decide +kernel
theorem d_X_compile_21 : decode b_X_compile 21 = .ok (.aload_n 0, 1) := by decide +kernel
theorem d_X_compile_22 : decode b_X_compile 22 = .ok (.getfield 91, 3) := by decide +kernel
theorem d_X_compile_25 : decode b_X_compile 25 = .ok (.if_icmp .ge 67, 3) := by decide +kernel
theorem d_X_compile_28 : decode b_X_compile 28 = .ok (.aload_n 0, 1) := by decide +kernel
theorem d_X_compile_29 : decode b_X_compile 29 = .ok (.iconst 2, 1) := by decide +kernel
theorem d_X_compile_30 : decode b_X_compile 30 = .ok (.iload_n 1, 1) := by decide +kernel
theorem d_X_compile_31 : decode b_X_compile 31 = .ok (.imul, 1) := by decide +kernel
theorem d_X_compile_32 : decode b_X_compile 32 = .ok (.invokevirtual 133, 3) := by decide +kernel
theorem d_X_compile_35 : decode b_X_compile 35 = .ok (.aload_n 0, 1) := by decide +kernel
theorem d_X_compile_36 : decode b_X_compile 36 = .ok (.iconst 2, 1) := by decide +kernel
theorem d_X_compile_37 : decode b_X_compile 37 = .ok (.iload_n 1, 1) := by decide +kernel
theorem d_X_compile_38 : decode b_X_compile 38 = .ok (.imul, 1) := by decide +kernel
theorem d_X_compile_39 : decode b_X_compile 39 = .ok (.iconst 1, 1) := by decide +kernel
theorem d_X_compile_40 : decode b_X_compile 40 = .ok (.iadd, 1) := by decide +kernel
theorem d_X_compile_41 : decode b_X_compile 41 = .ok (.invokevirtual 133, 3) := by decide +kernel
theorem d_X_compile_44 : decode b_X_compile 44 = .ok (.aload_n 0, 1) := by decide +kernel
theorem d_X_compile_45 : decode b_X_compile 45 = .ok (.getfield 16, 3) := by decide +kernel
theorem d_X_compile_48 : decode b_X_compile 48 = .ok (.iconst 2, 1) := by decide +kernel
theorem d_X_compile_49 : decode b_X_compile 49 = .ok (.iload_n 1, 1) := by decide +kernel
theorem d_X_compile_50 : decode b_X_compile 50 = .ok (.imul, 1) := by decide +kernel
theorem d_X_compile_51 : decode b_X_compile 51 = .ok (.iaload, 1) := by decide +kernel
theorem d_X_compile_52 : decode b_X_compile 52 = .ok (.bipush 7, 2) := by decide +kernel
theorem d_X_compile_54 : decode b_X_compile 54 = .ok (.iand, 1) := by decide +kernel
theorem d_X_compile_55 : decode b_X_compile 55 = .ok (.ifCond .ne 31, 3) := by decide +kernel
theorem d_X_compile_58 : decode b_X_compile 58 = .ok (.aload_n 0, 1) := by decide +kernel
theorem d_X_compile_59 : decode b_X_compile 59 = .ok (.getfield 16, 3) := by decide +kernel
theorem d_X_compile_62 : decode b_X_compile 62 = .ok (.iconst 2, 1) := by decide +kernel
theorem d_X_compile_63 : decode b_X_compile 63 = .ok (.iload_n 1, 1) := by decide +kernel
theorem d_X_compile_64 : decode b_X_compile 64 = .ok (.imul, 1) := by decide +kernel
theorem d_X_compile_65 : decode b_X_compile 65 = .ok (.iconst 1, 1) := by decide +kernel
theorem d_X_compile_66 : decode b_X_compile 66 = .ok (.iadd, 1) := by decide +kernel
theorem d_X_compile_67 : decode b_X_compile 67 = .ok (.iaload, 1) := by decide +kernel
theorem d_X_compile_68 : decode b_X_compile 68 = .ok (.bipush 7, 2) := by decide +kernel
theorem d_X_compile_70 : decode b_X_compile 70 = .ok (.iand, 1) := by decide +kernel
theorem d_X_compile_71 : decode b_X_compile 71 = .ok (.ifCond .ne 15, 3) := by decide +kernel
theorem d_X_compile_74 : decode b_X_compile 74 = .ok (.aload_n 0, 1) := by decide +kernel
theorem d_X_compile_75 : decode b_X_compile 75 = .ok (.aload_n 0, 1) := by decide +kernel
theorem d_X_compile_76 : decode b_X_compile 76 = .ok (.getfield 130, 3) := by decide +kernel
theorem d_X_compile_79 : decode b_X_compile 79 = .ok (.iconst 1, 1) := by decide +kernel
theorem d_X_compile_80 : decode b_X_compile 80 = .ok (.iload_n 1, 1) := by decide +kernel
theorem d_X_compile_81 : decode b_X_compile 81 = .ok (.ishl, 1) := by decide +kernel
theorem d_X_compile_82 : decode b_X_compile 82 = .ok (.ior, 1) := by decide +kernel
theorem d_X_compile_83 : decode b_X_compile 83 = .ok (.putfield 130, 3) := by decide +kernel
theorem d_X_compile_86 : decode b_X_compile 86 = .ok (.iinc 1 1, 3) := by decide +kernel
theorem d_X_compile_89 : decode b_X_compile 89 = .ok (.goto (-69), 3) := by decide +kernel
theorem d_X_compile_92 : decode b_X_compile 92 = .ok (.aload_n 0, 1) := by decide +kernel
theorem d_X_compile_93 : decode b_X_compile 93 = .ok (.invokevirtual 137, 3) := by decide +kernel
theorem d_X_compile_96 : decode b_X_compile 96 = .ok (.aload_n 0, 1) := by decide +kernel
theorem d_X_compile_97 : decode b_X_compile 97 = .ok (.iconst 0, 1) := by decide +kernel
theorem d_X_compile_98 : decode b_X_compile 98 = .ok (.putfield 140, 3) := by decide +kernel
theorem d_X_compile_101 : decode b_X_compile 101 = .ok (.iconst 0, 1) := by decide +kernel
theorem d_X_compile_102 : decode b_X_compile 102 = .ok (.istore_n 1, 1) := by decide +kernel
theorem d_X_compile_103 : decode b_X_compile 103 = .ok (.iload_n 1, 1) := by decide +kernel
theorem d_X_compile_104 : decode b_X_compile 104 = .ok (.aload_n 0, 1) := by decide +kernel
theorem d_X_compile_105 : decode b_X_compile 105 = .ok (.getfield 124, 3) := by decide +kernel
theorem d_X_compile_108 : decode b_X_compile 108 = .ok (.if_icmp .ge 30, 3) := by decide +kernel
theorem d_X_compile_111 : decode b_X_compile 111 = .ok (.aload_n 0, 1) := by decide +kernel
theorem d_X_compile_112 : decode b_X_compile 112 = .ok (.getfield 44, 3) := by decide +kernel
theorem d_X_compile_115 : decode b_X_compile 115 = .ok (.iload_n 1, 1) := by decide +kernel
theorem d_X_compile_116 : decode b_X_compile 116 = .ok (.aload_n 0, 1) := by decide +kernel
theorem d_X_compile_117 : decode b_X_compile 117 = .ok (.aload_n 0, 1) := by decide +kernel
theorem d_X_compile_118 : decode b_X_compile 118 = .ok (.getfield 38, 3) := by decide +kernel
theorem d_X_compile_121 : decode b_X_compile 121 = .ok (.aload_n 0, 1) := by decide +kernel
theorem d_X_compile_122 : decode b_X_compile 122 = .ok (.getfield 41, 3) := by decide +kernel
theorem d_X_compile_125 : decode b_X_compile 125 = .ok (.iload_n 1, 1) := by decide +kernel
theorem d_X_compile_126 : decode b_X_compile 126 = .ok (.iaload, 1) := by decide +kernel
theorem d_X_compile_127 : decode b_X_compile 127 = .ok (.iaload, 1) := by decide +kernel
theorem d_X_compile_128 : decode b_X_compile 128 = .ok (.invokevirtual 143, 3) := by decide +kernel
theorem d_X_compile_131 : decode b_X_compile 131 = .ok (.iastore, 1) := by decide +kernel
theorem d_X_compile_132 : decode b_X_compile 132 = .ok (.iinc 1 1, 3) := by decide +kernel
theorem d_X_compile_135 : decode b_X_compile 135 = .ok (.goto (-32), 3) := by decide +kernel
theorem d_X_compile_138 : decode b_X_compile 138 = .ok (.aload_n 0, 1) := by decide +kernel
theorem d_X_compile_139 : decode b_X_compile 139 = .ok (.invokevirtual 146, 3) := by decide +kernel
theorem d_X_compile_142 : decode b_X_compile 142 = .ok (.return_, 1) := by decide +kernel
theorem d_X_normalise_0 : decode b_X_normalise 0 = .ok (.aload_n 0, 1) := by decide +kernel
theorem d_X_normalise_1 : decode b_X_normalise 1 = .ok (.getfield 16, 3) := by decide +kernel
theorem d_X_normalise_4 : decode b_X_normalise 4 = .ok (.iload_n 1, 1) := by decide +kernel
theorem d_X_normalise_5 : decode b_X_normalise 5 = .ok (.iaload, 1) := by decide +kernel
theorem d_X_normalise_6 : decode b_X_normalise 6 = .ok (.bipush 7, 2) := by decide +kernel
theorem d_X_normalise_8 : decode b_X_normalise 8 = .ok (.iand, 1) := by decide +kernel
theorem d_X_normalise_9 : decode b_X_normalise 9 = .ok (.istore_n 2, 1) := by decide +kernel
theorem d_X_normalise_10 : decode b_X_normalise 10 = .ok (.aload_n 0, 1) := by decide +kernel
theorem d_X_normalise_11 : decode b_X_normalise 11 = .ok (.getfield 22, 3) := by decide +kernel
theorem d_X_normalise_14 : decode b_X_normalise 14 = .ok (.iload_n 1, 1) := by decide +kernel
theorem d_X_normalise_15 : decode b_X_normalise 15 = .ok (.iaload, 1) := by decide +kernel
theorem d_X_normalise_16 : decode b_X_normalise 16 = .ok (.istore_n 3, 1) := by decide +kernel
theorem d_X_normalise_17 : decode b_X_normalise 17 = .ok (.aload_n 0, 1) := by decide +kernel
theorem d_X_normalise_18 : decode b_X_normalise 18 = .ok (.getfield 28, 3) := by decide +kernel
theorem d_X_normalise_21 : decode b_X_normalise 21 = .ok (.iload_n 1, 1) := by decide +kernel
theorem d_X_normalise_22 : decode b_X_normalise 22 = .ok (.ldc 149, 2) := by decide +kernel
theorem d_X_normalise_24 : decode b_X_normalise 24 = .ok (.iastore, 1) := by decide +kernel
theorem d_X_normalise_25 : decode b_X_normalise 25 = .ok (.aload_n 0, 1) := by decide +kernel
theorem d_X_normalise_26 : decode b_X_normalise 26 = .ok (.getfield 31, 3) := by decide +kernel
theorem d_X_normalise_29 : decode b_X_normalise 29 = .ok (.iload_n 1, 1) := by decide +kernel
theorem d_X_normalise_30 : decode b_X_normalise 30 = .ok (.ldc 150, 2) := by decide +kernel
theorem d_X_normalise_32 : decode b_X_normalise 32 = .ok (.iastore, 1) := by decide +kernel
theorem d_X_normalise_33 : decode b_X_normalise 33 = .ok (.aload_n 0, 1) := by decide +kernel
theorem d_X_normalise_34 : decode b_X_normalise 34 = .ok (.getfield 34, 3) := by decide +kernel
theorem d_X_normalise_37 : decode b_X_normalise 37 = .ok (.iload_n 1, 1) := by decide +kernel
theorem d_X_normalise_38 : decode b_X_normalise 38 = .ok (.iload_n 2, 1) := by decide +kernel
theorem d_X_normalise_39 : decode b_X_normalise 39 = .ok (.iconst 2, 1) := by decide +kernel
theorem d_X_normalise_40 : decode b_X_normalise 40 = .ok (.if_icmp .ne 7, 3) := by decide +kernel
theorem d_X_normalise_43 : decode b_X_normalise 43 = .ok (.iconst 1, 1) := by decide +kernel
theorem d_X_normalise_44 : decode b_X_normalise 44 = .ok (.goto 4, 3) := by decide +kernel
theorem d_X_normalise_47 : decode b_X_normalise 47 = .ok (.iconst 0, 1) := by decide +kernel
theorem d_X_normalise_48 : decode b_X_normalise 48 = .ok (.bastore, 1) := by decide +kernel
theorem d_X_normalise_49 : decode b_X_normalise 49 = .ok (.iload_n 2, 1) := by decide +kernel
theorem d_X_normalise_50 : decode b_X_normalise 50 = .ok (.iconst 1, 1) := by decide +kernel
theorem d_X_normalise_51 : decode b_X_normalise 51 = .ok (.if_icmp .eq 8, 3) := by decide +kernel
theorem d_X_normalise_54 : decode b_X_normalise 54 = .ok (.iload_n 2, 1) := by decide +kernel
theorem d_X_normalise_55 : decode b_X_normalise 55 = .ok (.iconst 2, 1) := by decide +kernel
theorem d_X_normalise_56 : decode b_X_normalise 56 = .ok (.if_icmp .ne 20, 3) := by decide +kernel
theorem d_X_normalise_59 : decode b_X_normalise 59 = .ok (.aload_n 0, 1) := by decide +kernel
theorem d_X_normalise_60 : decode b_X_normalise 60 = .ok (.getfield 28, 3) := by decide +kernel
theorem d_X_normalise_63 : decode b_X_normalise 63 = .ok (.iload_n 1, 1) := by decide +kernel
theorem d_X_normalise_64 : decode b_X_normalise 64 = .ok (.iload_n 3, 1) := by decide +kernel
theorem d_X_normalise_65 : decode b_X_normalise 65 = .ok (.iastore, 1) := by decide +kernel
theorem d_X_normalise_66 : decode b_X_normalise 66 = .ok (.aload_n 0, 1) := by decide +kernel
theorem d_X_normalise_67 : decode b_X_normalise 67 = .ok (.getfield 31, 3) := by decide +kernel
theorem d_X_normalise_70 : decode b_X_normalise 70 = .ok (.iload_n 1, 1) := by decide +kernel
theorem d_X_normalise_71 : decode b_X_normalise 71 = .ok (.iload_n 3, 1) := by decide +kernel
theorem d_X_normalise_72 : decode b_X_normalise 72 = .ok (.iastore, 1) := by decide +kernel
theorem d_X_normalise_73 : decode b_X_normalise 73 = .ok (.goto 109, 3) := by decide +kernel
theorem d_X_normalise_76 : decode b_X_normalise 76 = .ok (.iload_n 2, 1) := by decide +kernel
theorem d_X_normalise_77 : decode b_X_normalise 77 = .ok (.iconst 4, 1) := by decide +kernel
theorem d_X_normalise_78 : decode b_X_normalise 78 = .ok (.if_icmp .ne 13, 3) := by decide +kernel
theorem d_X_normalise_81 : decode b_X_normalise 81 = .ok (.aload_n 0, 1) := by decide +kernel
theorem d_X_normalise_82 : decode b_X_normalise 82 = .ok (.getfield 31, 3) := by decide +kernel
theorem d_X_normalise_85 : decode b_X_normalise 85 = .ok (.iload_n 1, 1) := by decide +kernel
theorem d_X_normalise_86 : decode b_X_normalise 86 = .ok (.iload_n 3, 1) := by decide +kernel
theorem d_X_normalise_87 : decode b_X_normalise 87 = .ok (.iastore, 1) := by decide +kernel
theorem d_X_normalise_88 : decode b_X_normalise 88 = .ok (.goto 94, 3) := by decide +kernel
theorem d_X_normalise_91 : decode b_X_normalise 91 = .ok (.iload_n 2, 1) := by decide +kernel
theorem d_X_normalise_92 : decode b_X_normalise 92 = .ok (.bipush 6, 2) := by decide +kernel
theorem d_X_normalise_94 : decode b_X_normalise 94 = .ok (.if_icmp .ne 13, 3) := by decide +kernel
theorem d_X_normalise_97 : decode b_X_normalise 97 = .ok (.aload_n 0, 1) := by decide +kernel
theorem d_X_normalise_98 : decode b_X_normalise 98 = .ok (.getfield 28, 3) := by decide +kernel
theorem d_X_normalise_101 : decode b_X_normalise 101 = .ok (.iload_n 1, 1) := by decide +kernel
theorem d_X_normalise_102 : decode b_X_normalise 102 = .ok (.iload_n 3, 1) := by decide +kernel
theorem d_X_normalise_103 : decode b_X_normalise 103 = .ok (.iastore, 1) := by decide +kernel
theorem d_X_normalise_104 : decode b_X_normalise 104 = .ok (.goto 78, 3) := by decide +kernel
theorem d_X_normalise_107 : decode b_X_normalise 107 = .ok (.iload_n 2, 1) := by decide +kernel
theorem d_X_normalise_108 : decode b_X_normalise 108 = .ok (.iconst 3, 1) := by decide +kernel
theorem d_X_normalise_109 : decode b_X_normalise 109 = .ok (.if_icmp .ne 37, 3) := by decide +kernel
theorem d_X_normalise_112 : decode b_X_normalise 112 = .ok (.aload_n 0, 1) := by decide +kernel
theorem d_X_normalise_113 : decode b_X_normalise 113 = .ok (.getfield 31, 3) := by decide +kernel
theorem d_X_normalise_116 : decode b_X_normalise 116 = .ok (.iload_n 1, 1) := by decide +kernel
theorem d_X_normalise_117 : decode b_X_normalise 117 = .ok (.iload_n 3, 1) := by decide +kernel
theorem d_X_normalise_118 : decode b_X_normalise 118 = .ok (.iconst 1, 1) := by decide +kernel
theorem d_X_normalise_119 : decode b_X_normalise 119 = .ok (.isub, 1) := by decide +kernel
theorem d_X_normalise_120 : decode b_X_normalise 120 = .ok (.iastore, 1) := by decide +kernel
theorem d_X_normalise_121 : decode b_X_normalise 121 = .ok (.iload_n 3, 1) := by decide +kernel
theorem d_X_normalise_122 : decode b_X_normalise 122 = .ok (.ldc 149, 2) := by decide +kernel
theorem d_X_normalise_124 : decode b_X_normalise 124 = .ok (.if_icmp .ne 58, 3) := by decide +kernel
theorem d_X_normalise_127 : decode b_X_normalise 127 = .ok (.aload_n 0, 1) := by decide +kernel
theorem d_X_normalise_128 : decode b_X_normalise 128 = .ok (.getfield 31, 3) := by decide +kernel
theorem d_X_normalise_131 : decode b_X_normalise 131 = .ok (.iload_n 1, 1) := by decide +kernel
theorem d_X_normalise_132 : decode b_X_normalise 132 = .ok (.ldc 149, 2) := by decide +kernel
theorem d_X_normalise_134 : decode b_X_normalise 134 = .ok (.iastore, 1) := by decide +kernel
theorem d_X_normalise_135 : decode b_X_normalise 135 = .ok (.aload_n 0, 1) := by decide +kernel
theorem d_X_normalise_136 : decode b_X_normalise 136 = .ok (.getfield 28, 3) := by decide +kernel
theorem d_X_normalise_139 : decode b_X_normalise 139 = .ok (.iload_n 1, 1) := by decide +kernel
theorem d_X_normalise_140 : decode b_X_normalise 140 = .ok (.ldc 150, 2) := by decide +kernel
theorem d_X_normalise_142 : decode b_X_normalise 142 = .ok (.iastore, 1) := by decide +kernel
theorem d_X_normalise_143 : decode b_X_normalise 143 = .ok (.goto 39, 3) := by decide +kernel
theorem d_X_normalise_146 : decode b_X_normalise 146 = .ok (.iload_n 2, 1) := by decide +kernel
theorem d_X_normalise_147 : decode b_X_normalise 147 = .ok (.iconst 5, 1) := by decide +kernel
theorem d_X_normalise_148 : decode b_X_normalise 148 = .ok (.if_icmp .ne 34, 3) := by decide +kernel
theorem d_X_normalise_151 : decode b_X_normalise 151 = .ok (.aload_n 0, 1) := by decide +kernel
theorem d_X_normalise_152 : decode b_X_normalise 152 = .ok (.getfield 28, 3) := by decide +kernel
theorem d_X_normalise_155 : decode b_X_normalise 155 = .ok (.iload_n 1, 1) := by decide +kernel
theorem d_X_normalise_156 : decode b_X_normalise 156 = .ok (.iload_n 3, 1) := by decide +kernel
theorem d_X_normalise_157 : decode b_X_normalise 157 = .ok (.iconst 1, 1) := by decide +kernel
theorem d_X_normalise_158 : decode b_X_normalise 158 = .ok (.iadd, 1) := by decide +kernel
theorem d_X_normalise_159 : decode b_X_normalise 159 = .ok (.iastore, 1) := by decide +kernel
theorem d_X_normalise_160 : decode b_X_normalise 160 = .ok (.iload_n 3, 1) := by decide +kernel
theorem d_X_normalise_161 : decode b_X_normalise 161 = .ok (.ldc 150, 2) := by decide +kernel
theorem d_X_normalise_163 : decode b_X_normalise 163 = .ok (.if_icmp .ne 19, 3) := by decide +kernel
theorem d_X_normalise_166 : decode b_X_normalise 166 = .ok (.aload_n 0, 1) := by decide +kernel
theorem d_X_normalise_167 : decode b_X_normalise 167 = .ok (.getfield 28, 3) := by decide +kernel
theorem d_X_normalise_170 : decode b_X_normalise 170 = .ok (.iload_n 1, 1) := by decide +kernel
theorem d_X_normalise_171 : decode b_X_normalise 171 = .ok (.ldc 150, 2) := by decide +kernel
theorem d_X_normalise_173 : decode b_X_normalise 173 = .ok (.iastore, 1) := by decide +kernel
theorem d_X_normalise_174 : decode b_X_normalise 174 = .ok (.aload_n 0, 1) := by decide +kernel
theorem d_X_normalise_175 : decode b_X_normalise 175 = .ok (.getfield 31, 3) := by decide +kernel
theorem d_X_normalise_178 : decode b_X_normalise 178 = .ok (.iload_n 1, 1) := by decide +kernel
theorem d_X_normalise_179 : decode b_X_normalise 179 = .ok (.ldc 149, 2) := by decide +kernel
theorem d_X_normalise_181 : decode b_X_normalise 181 = .ok (.iastore, 1) := by decide +kernel
theorem d_X_normalise_182 : decode b_X_normalise 182 = .ok (.return_, 1) := by decide +kernel
theorem d_X_cutStretches_0 : decode b_X_cutStretches 0 = .ok (.iconst 0, 1) := by decide +kernel
theorem d_X_cutStretches_1 : decode b_X_cutStretches 1 = .ok (.istore_n 1, 1) := by decide +kernel
theorem d_X_cutStretches_2 : decode b_X_cutStretches 2 = .ok (.iload_n 1, 1) := by decide +kernel
theorem d_X_cutStretches_3 : decode b_X_cutStretches 3 = .ok (.bipush 32, 2) := by decide +kernel
theorem d_X_cutStretches_5 : decode b_X_cutStretches 5 = .ok (.if_icmp .ge 68, 3) := by decide +kernel
theorem d_X_cutStretches_8 : decode b_X_cutStretches 8 = .ok (.aload_n 0, 1) := by decide +kernel
theorem d_X_cutStretches_9 : decode b_X_cutStretches 9 = .ok (.getfield 38, 3) := by decide +kernel
theorem d_X_cutStretches_12 : decode b_X_cutStretches 12 = .ok (.iload_n 1, 1) := by decide +kernel
theorem d_X_cutStretches_13 : decode b_X_cutStretches 13 = .ok (.iconst 0, 1) := by decide +kernel
theorem d_X_cutStretches_14 : decode b_X_cutStretches 14 = .ok (.iastore, 1) := by decide +kernel
theorem d_X_cutStretches_15 : decode b_X_cutStretches 15 = .ok (.iconst 0, 1) := by decide +kernel
theorem d_X_cutStretches_16 : decode b_X_cutStretches 16 = .ok (.istore_n 2, 1) := by decide +kernel
theorem d_X_cutStretches_17 : decode b_X_cutStretches 17 = .ok (.iload_n 2, 1) := by decide +kernel
theorem d_X_cutStretches_18 : decode b_X_cutStretches 18 = .ok (.aload_n 0, 1) := by decide +kernel
theorem d_X_cutStretches_19 : decode b_X_cutStretches 19 = .ok (.getfield 91, 3) := by decide +kernel
theorem d_X_cutStretches_22 : decode b_X_cutStretches 22 = .ok (.if_icmp .ge 45, 3) := by decide +kernel
theorem d_X_cutStretches_25 : decode b_X_cutStretches 25 = .ok (.aload_n 0, 1) := by decide +kernel
theorem d_X_cutStretches_26 : decode b_X_cutStretches 26 = .ok (.getfield 7, 3) := by decide +kernel
theorem d_X_cutStretches_29 : decode b_X_cutStretches 29 = .ok (.iload_n 2, 1) := by decide +kernel
theorem d_X_cutStretches_30 : decode b_X_cutStretches 30 = .ok (.iaload, 1) := by decide +kernel
theorem d_X_cutStretches_31 : decode b_X_cutStretches 31 = .ok (.iload_n 1, 1) := by decide +kernel
theorem d_X_cutStretches_32 : decode b_X_cutStretches 32 = .ok (.if_icmp .gt 29, 3) := by decide +kernel
theorem d_X_cutStretches_35 : decode b_X_cutStretches 35 = .ok (.iload_n 1, 1) := by decide +kernel
theorem d_X_cutStretches_36 : decode b_X_cutStretches 36 = .ok (.aload_n 0, 1) := by decide +kernel
theorem d_X_cutStretches_37 : decode b_X_cutStretches 37 = .ok (.getfield 13, 3) := by decide +kernel
theorem d_X_cutStretches_40 : decode b_X_cutStretches 40 = .ok (.iload_n 2, 1) := by decide +kernel
theorem d_X_cutStretches_41 : decode b_X_cutStretches 41 = .ok (.iaload, 1) := by decide +kernel
theorem d_X_cutStretches_42 : decode b_X_cutStretches 42 = .ok (.if_icmp .gt 19, 3) := by decide +kernel
theorem d_X_cutStretches_45 : decode b_X_cutStretches 45 = .ok (.aload_n 0, 1) := by decide +kernel
theorem d_X_cutStretches_46 : decode b_X_cutStretches 46 = .ok (.getfield 38, 3) := by decide +kernel
theorem d_X_cutStretches_49 : decode b_X_cutStretches 49 = .ok (.iload_n 1, 1) := by decide +kernel
theorem d_X_cutStretches_50 : decode b_X_cutStretches 50 = .ok (.aload_n 0, 1) := by decide +kernel
theorem d_X_cutStretches_51 : decode b_X_cutStretches 51 = .ok (.getfield 38, 3) := by decide +kernel
theorem d_X_cutStretches_54 : decode b_X_cutStretches 54 = .ok (.iload_n 1, 1) := by decide +kernel
theorem d_X_cutStretches_55 : decode b_X_cutStretches 55 = .ok (.iaload, 1) := by decide +kernel
theorem d_X_cutStretches_56 : decode b_X_cutStretches 56 = .ok (.iconst 1, 1) := by decide +kernel
theorem d_X_cutStretches_57 : decode b_X_cutStretches 57 = .ok (.iload_n 2, 1) := by decide +kernel
theorem d_X_cutStretches_58 : decode b_X_cutStretches 58 = .ok (.ishl, 1) := by decide +kernel
theorem d_X_cutStretches_59 : decode b_X_cutStretches 59 = .ok (.ior, 1) := by decide +kernel
theorem d_X_cutStretches_60 : decode b_X_cutStretches 60 = .ok (.iastore, 1) := by decide +kernel
theorem d_X_cutStretches_61 : decode b_X_cutStretches 61 = .ok (.iinc 2 1, 3) := by decide +kernel
theorem d_X_cutStretches_64 : decode b_X_cutStretches 64 = .ok (.goto (-47), 3) := by decide +kernel
theorem d_X_cutStretches_67 : decode b_X_cutStretches 67 = .ok (.iinc 1 1, 3) := by decide +kernel
theorem d_X_cutStretches_70 : decode b_X_cutStretches 70 = .ok (.goto (-68), 3) := by decide +kernel
theorem d_X_cutStretches_73 : decode b_X_cutStretches 73 = .ok (.aload_n 0, 1) := by decide +kernel
theorem d_X_cutStretches_74 : decode b_X_cutStretches 74 = .ok (.iconst 0, 1) := by decide +kernel
theorem d_X_cutStretches_75 : decode b_X_cutStretches 75 = .ok (.putfield 124, 3) := by decide +kernel
theorem d_X_cutStretches_78 : decode b_X_cutStretches 78 = .ok (.iconst 0, 1) := by decide +kernel
theorem d_X_cutStretches_79 : decode b_X_cutStretches 79 = .ok (.istore_n 1, 1) := by decide +kernel
theorem d_X_cutStretches_80 : decode b_X_cutStretches 80 = .ok (.iload_n 1, 1) := by decide +kernel
theorem d_X_cutStretches_81 : decode b_X_cutStretches 81 = .ok (.bipush 32, 2) := by decide +kernel
theorem d_X_cutStretches_83 : decode b_X_cutStretches 83 = .ok (.if_icmp .ge 50, 3) := by decide +kernel
theorem d_X_cutStretches_86 : decode b_X_cutStretches 86 = .ok (.iload_n 1, 1) := by decide +kernel
theorem d_X_cutStretches_87 : decode b_X_cutStretches 87 = .ok (.ifCond .eq 20, 3) := by decide +kernel
theorem d_X_cutStretches_90 : decode b_X_cutStretches 90 = .ok (.aload_n 0, 1) := by decide +kernel
theorem d_X_cutStretches_91 : decode b_X_cutStretches 91 = .ok (.getfield 38, 3) := by decide +kernel
theorem d_X_cutStretches_94 : decode b_X_cutStretches 94 = .ok (.iload_n 1, 1) := by decide +kernel
theorem d_X_cutStretches_95 : decode b_X_cutStretches 95 = .ok (.iaload, 1) := by decide +kernel
theorem d_X_cutStretches_96 : decode b_X_cutStretches 96 = .ok (.aload_n 0, 1) := by decide +kernel
theorem d_X_cutStretches_97 : decode b_X_cutStretches 97 = .ok (.getfield 38, 3) := by decide +kernel
theorem d_X_cutStretches_100 : decode b_X_cutStretches 100 = .ok (.iload_n 1, 1) := by decide +kernel
theorem d_X_cutStretches_101 : decode b_X_cutStretches 101 = .ok (.iconst 1, 1) := by decide +kernel
theorem d_X_cutStretches_102 : decode b_X_cutStretches 102 = .ok (.isub, 1) := by decide +kernel
theorem d_X_cutStretches_103 : decode b_X_cutStretches 103 = .ok (.iaload, 1) := by decide +kernel
theorem d_X_cutStretches_104 : decode b_X_cutStretches 104 = .ok (.if_icmp .eq 23, 3) := by decide +kernel
theorem d_X_cutStretches_107 : decode b_X_cutStretches 107 = .ok (.aload_n 0, 1) := by decide +kernel
theorem d_X_cutStretches_108 : decode b_X_cutStretches 108 = .ok (.getfield 41, 3) := by decide +kernel
theorem d_X_cutStretches_111 : decode b_X_cutStretches 111 = .ok (.aload_n 0, 1) := by decide +kernel
theorem d_X_cutStretches_112 : decode b_X_cutStretches 112 = .ok (.getfield 124, 3) := by decide +kernel
theorem d_X_cutStretches_115 : decode b_X_cutStretches 115 = .ok (.iload_n 1, 1) := by decide +kernel
theorem d_X_cutStretches_116 : decode b_X_cutStretches 116 = .ok (.iastore, 1) := by decide +kernel
theorem d_X_cutStretches_117 : decode b_X_cutStretches 117 = .ok (.aload_n 0, 1) := by decide +kernel
theorem d_X_cutStretches_118 : decode b_X_cutStretches 118 = .ok (.dup, 1) := by decide +kernel
theorem d_X_cutStretches_119 : decode b_X_cutStretches 119 = .ok (.getfield 124, 3) := by decide +kernel
theorem d_X_cutStretches_122 : decode b_X_cutStretches 122 = .ok (.iconst 1, 1) := by decide +kernel
theorem d_X_cutStretches_123 : decode b_X_cutStretches 123 = .ok (.iadd, 1) := by decide +kernel
theorem d_X_cutStretches_124 : decode b_X_cutStretches 124 = .ok (.putfield 124, 3) := by decide +kernel
theorem d_X_cutStretches_127 : decode b_X_cutStretches 127 = .ok (.iinc 1 1, 3) := by decide +kernel
theorem d_X_cutStretches_130 : decode b_X_cutStretches 130 = .ok (.goto (-50), 3) := by decide +kernel
theorem d_X_cutStretches_133 : decode b_X_cutStretches 133 = .ok (.aload_n 0, 1) := by decide +kernel
theorem d_X_cutStretches_134 : decode b_X_cutStretches 134 = .ok (.getfield 41, 3) := by decide +kernel
theorem d_X_cutStretches_137 : decode b_X_cutStretches 137 = .ok (.aload_n 0, 1) := by decide +kernel
theorem d_X_cutStretches_138 : decode b_X_cutStretches 138 = .ok (.getfield 124, 3) := by decide +kernel
theorem d_X_cutStretches_141 : decode b_X_cutStretches 141 = .ok (.bipush 32, 2) := by decide +kernel
theorem d_X_cutStretches_143 : decode b_X_cutStretches 143 = .ok (.iastore, 1) := by decide +kernel
theorem d_X_cutStretches_144 : decode b_X_cutStretches 144 = .ok (.return_, 1) := by decide +kernel
theorem d_X_buildChain_0 : decode b_X_buildChain 0 = .ok (.iload_n 1, 1) := by decide +kernel
theorem d_X_buildChain_1 : decode b_X_buildChain 1 = .ok (.aload_n 0, 1) := by decide +kernel
theorem d_X_buildChain_2 : decode b_X_buildChain 2 = .ok (.getfield 130, 3) := by decide +kernel
theorem d_X_buildChain_5 : decode b_X_buildChain 5 = .ok (.iand, 1) := by decide +kernel
theorem d_X_buildChain_6 : decode b_X_buildChain 6 = .ok (.istore_n 2, 1) := by decide +kernel
theorem d_X_buildChain_7 : decode b_X_buildChain 7 = .ok (.iload_n 2, 1) := by decide +kernel
theorem d_X_buildChain_8 : decode b_X_buildChain 8 = .ok (.iload_n 2, 1) := by decide +kernel
theorem d_X_buildChain_9 : decode b_X_buildChain 9 = .ok (.ineg, 1) := by decide +kernel
theorem d_X_buildChain_10 : decode b_X_buildChain 10 = .ok (.iand, 1) := by decide +kernel
theorem d_X_buildChain_11 : decode b_X_buildChain 11 = .ok (.istore_n 3, 1) := by decide +kernel
theorem d_X_buildChain_12 : decode b_X_buildChain 12 = .ok (.iload_n 3, 1) := by decide +kernel
theorem d_X_buildChain_13 : decode b_X_buildChain 13 = .ok (.ifCond .ne 7, 3) := by decide +kernel
theorem d_X_buildChain_16 : decode b_X_buildChain 16 = .ok (.iload_n 1, 1) := by decide +kernel
theorem d_X_buildChain_17 : decode b_X_buildChain 17 = .ok (.goto 10, 3) := by decide +kernel
theorem d_X_buildChain_20 : decode b_X_buildChain 20 = .ok (.iload_n 1, 1) := by decide +kernel
theorem d_X_buildChain_21 : decode b_X_buildChain 21 = .ok (.iload_n 3, 1) := by decide +kernel
theorem d_X_buildChain_22 : decode b_X_buildChain 22 = .ok (.iload_n 3, 1) := by decide +kernel
theorem d_X_buildChain_23 : decode b_X_buildChain 23 = .ok (.iconst 1, 1) := by decide +kernel
theorem d_X_buildChain_24 : decode b_X_buildChain 24 = .ok (.isub, 1) := by decide +kernel
theorem d_X_buildChain_25 : decode b_X_buildChain 25 = .ok (.ior, 1) := by decide +kernel
theorem d_X_buildChain_26 : decode b_X_buildChain 26 = .ok (.iand, 1) := by decide +kernel
theorem d_X_buildChain_27 : decode b_X_buildChain 27 = .ok (.istore 4, 2) := by decide +kernel
theorem d_X_buildChain_29 : decode b_X_buildChain 29 = .ok (.iconst (-1), 1) := by decide +kernel
theorem d_X_buildChain_30 : decode b_X_buildChain 30 = .ok (.istore 5, 2) := by decide +kernel
theorem d_X_buildChain_32 : decode b_X_buildChain 32 = .ok (.aload_n 0, 1) := by decide +kernel
theorem d_X_buildChain_33 : decode b_X_buildChain 33 = .ok (.getfield 91, 3) := by decide +kernel
theorem d_X_buildChain_36 : decode b_X_buildChain 36 = .ok (.iconst 1, 1) := by decide +kernel
theorem d_X_buildChain_37 : decode b_X_buildChain 37 = .ok (.isub, 1) := by decide +kernel
theorem d_X_buildChain_38 : decode b_X_buildChain 38 = .ok (.istore 6, 2) := by decide +kernel
theorem d_X_buildChain_40 : decode b_X_buildChain 40 = .ok (.iload 6, 2) := by decide +kernel
theorem d_X_buildChain_42 : decode b_X_buildChain 42 = .ok (.ifCond .lt 30, 3) := by decide +kernel
theorem d_X_buildChain_45 : decode b_X_buildChain 45 = .ok (.iload 4, 2) := by decide +kernel
theorem d_X_buildChain_47 : decode b_X_buildChain 47 = .ok (.iload 6, 2) := by decide +kernel
theorem d_X_buildChain_49 : decode b_X_buildChain 49 = .ok (.ishr, 1) := by decide +kernel
theorem d_X_buildChain_50 : decode b_X_buildChain 50 = .ok (.iconst 1, 1) := by decide +kernel
theorem d_X_buildChain_51 : decode b_X_buildChain 51 = .ok (.iand, 1) := by decide +kernel
theorem d_X_buildChain_52 : decode b_X_buildChain 52 = .ok (.iconst 1, 1) := by decide +kernel
theorem d_X_buildChain_53 : decode b_X_buildChain 53 = .ok (.if_icmp .ne 13, 3) := by decide +kernel
theorem d_X_buildChain_56 : decode b_X_buildChain 56 = .ok (.aload_n 0, 1) := by decide +kernel
theorem d_X_buildChain_57 : decode b_X_buildChain 57 = .ok (.iload 6, 2) := by decide +kernel
theorem d_X_buildChain_59 : decode b_X_buildChain 59 = .ok (.iload 5, 2) := by decide +kernel
theorem d_X_buildChain_61 : decode b_X_buildChain 61 = .ok (.invokevirtual 151, 3) := by decide +kernel
theorem d_X_buildChain_64 : decode b_X_buildChain 64 = .ok (.istore 5, 2) := by decide +kernel
theorem d_X_buildChain_66 : decode b_X_buildChain 66 = .ok (.iinc 6 (-1), 3) := by decide +kernel
theorem d_X_buildChain_69 : decode b_X_buildChain 69 = .ok (.goto (-29), 3) := by decide +kernel
theorem d_X_buildChain_72 : decode b_X_buildChain 72 = .ok (.iload 5, 2) := by decide +kernel
theorem d_X_buildChain_74 : decode b_X_buildChain 74 = .ok (.ireturn, 1) := by decide +kernel
theorem d_X_test_0 : decode b_X_test 0 = .ok (.iconst 0, 1) := by decide +kernel
theorem d_X_test_1 : decode b_X_test 1 = .ok (.istore_n 3, 1) := by decide +kernel
theorem d_X_test_2 : decode b_X_test 2 = .ok (.iload_n 3, 1) := by decide +kernel
theorem d_X_test_3 : decode b_X_test 3 = .ok (.aload_n 0, 1) := by decide +kernel
theorem d_X_test_4 : decode b_X_test 4 = .ok (.getfield 140, 3) := by decide +kernel
theorem d_X_test_7 : decode b_X_test 7 = .ok (.if_icmp .ge 31, 3) := by decide +kernel
theorem d_X_test_10 : decode b_X_test 10 = .ok (.aload_n 0, 1) := by decide +kernel
theorem d_X_test_11 : decode b_X_test 11 = .ok (.getfield 47, 3) := by decide +kernel
theorem d_X_test_14 : decode b_X_test 14 = .ok (.iload_n 3, 1) := by decide +kernel
theorem d_X_test_15 : decode b_X_test 15 = .ok (.iaload, 1) := by decide +kernel
theorem d_X_test_16 : decode b_X_test 16 = .ok (.iload_n 1, 1) := by decide +kernel
theorem d_X_test_17 : decode b_X_test 17 = .ok (.if_icmp .ne 15, 3) := by decide +kernel
theorem d_X_test_20 : decode b_X_test 20 = .ok (.aload_n 0, 1) := by decide +kernel
theorem d_X_test_21 : decode b_X_test 21 = .ok (.getfield 50, 3) := by decide +kernel
theorem d_X_test_24 : decode b_X_test 24 = .ok (.iload_n 3, 1) := by decide +kernel
theorem d_X_test_25 : decode b_X_test 25 = .ok (.iaload, 1) := by decide +kernel
theorem d_X_test_26 : decode b_X_test 26 = .ok (.iload_n 2, 1) := by decide +kernel
theorem d_X_test_27 : decode b_X_test 27 = .ok (.if_icmp .ne 5, 3) := by decide +kernel
theorem d_X_test_30 : decode b_X_test 30 = .ok (.iload_n 3, 1) := by decide +kernel
theorem d_X_test_31 : decode b_X_test 31 = .ok (.ireturn, 1) := by decide +kernel
theorem d_X_test_32 : decode b_X_test 32 = .ok (.iinc 3 1, 3) := by decide +kernel
theorem d_X_test_35 : decode b_X_test 35 = .ok (.goto (-33), 3) := by decide +kernel
theorem d_X_test_38 : decode b_X_test 38 = .ok (.aload_n 0, 1) := by decide +kernel
theorem d_X_test_39 : decode b_X_test 39 = .ok (.getfield 140, 3) := by decide +kernel
theorem d_X_test_42 : decode b_X_test 42 = .ok (.sipush 400, 3) := by decide +kernel
theorem d_X_test_45 : decode b_X_test 45 = .ok (.if_icmp .ne 5, 3) := by decide +kernel
theorem d_X_test_48 : decode b_X_test 48 = .ok (.iload_n 2, 1) := by decide +kernel
theorem d_X_test_49 : decode b_X_test 49 = .ok (.ireturn, 1) := by decide +kernel
theorem d_X_test_50 : decode b_X_test 50 = .ok (.aload_n 0, 1) := by decide +kernel
theorem d_X_test_51 : decode b_X_test 51 = .ok (.getfield 47, 3) := by decide +kernel
theorem d_X_test_54 : decode b_X_test 54 = .ok (.aload_n 0, 1) := by decide +kernel
theorem d_X_test_55 : decode b_X_test 55 = .ok (.getfield 140, 3) := by decide +kernel
theorem d_X_test_58 : decode b_X_test 58 = .ok (.iload_n 1, 1) := by decide +kernel
theorem d_X_test_59 : decode b_X_test 59 = .ok (.iastore, 1) := by decide +kernel
theorem d_X_test_60 : decode b_X_test 60 = .ok (.aload_n 0, 1) := by decide +kernel
theorem d_X_test_61 : decode b_X_test 61 = .ok (.getfield 50, 3) := by decide +kernel
theorem d_X_test_64 : decode b_X_test 64 = .ok (.aload_n 0, 1) := by decide +kernel
theorem d_X_test_65 : decode b_X_test 65 = .ok (.getfield 140, 3) := by decide +kernel
theorem d_X_test_68 : decode b_X_test 68 = .ok (.iload_n 2, 1) := by decide +kernel
theorem d_X_test_69 : decode b_X_test 69 = .ok (.iastore, 1) := by decide +kernel
theorem d_X_test_70 : decode b_X_test 70 = .ok (.aload_n 0, 1) := by decide +kernel
theorem d_X_test_71 : decode b_X_test 71 = .ok (.dup, 1) := by decide +kernel
theorem d_X_test_72 : decode b_X_test 72 = .ok (.getfield 140, 3) := by decide +kernel
theorem d_X_test_75 : decode b_X_test 75 = .ok (.iconst 1, 1) := by decide +kernel
theorem d_X_test_76 : decode b_X_test 76 = .ok (.iadd, 1) := by decide +kernel
theorem d_X_test_77 : decode b_X_test 77 = .ok (.putfield 140, 3) := by decide +kernel
theorem d_X_test_80 : decode b_X_test 80 = .ok (.aload_n 0, 1) := by decide +kernel
theorem d_X_test_81 : decode b_X_test 81 = .ok (.getfield 140, 3) := by decide +kernel
theorem d_X_test_84 : decode b_X_test 84 = .ok (.iconst 1, 1) := by decide +kernel
theorem d_X_test_85 : decode b_X_test 85 = .ok (.isub, 1) := by decide +kernel
theorem d_X_test_86 : decode b_X_test 86 = .ok (.ireturn, 1) := by decide +kernel
theorem d_X_buildTree_0 : decode b_X_buildTree 0 = .ok (.iconst 1, 1) := by decide +kernel
theorem d_X_buildTree_1 : decode b_X_buildTree 1 = .ok (.istore_n 1, 1) := by decide +kernel
theorem d_X_buildTree_2 : decode b_X_buildTree 2 = .ok (.aload_n 0, 1) := by decide +kernel
theorem d_X_buildTree_3 : decode b_X_buildTree 3 = .ok (.getfield 62, 3) := by decide +kernel
theorem d_X_buildTree_6 : decode b_X_buildTree 6 = .ok (.iconst 0, 1) := by decide +kernel
theorem d_X_buildTree_7 : decode b_X_buildTree 7 = .ok (.iconst 0, 1) := by decide +kernel
theorem d_X_buildTree_8 : decode b_X_buildTree 8 = .ok (.iastore, 1) := by decide +kernel
theorem d_X_buildTree_9 : decode b_X_buildTree 9 = .ok (.aload_n 0, 1) := by decide +kernel
theorem d_X_buildTree_10 : decode b_X_buildTree 10 = .ok (.getfield 65, 3) := by decide +kernel
theorem d_X_buildTree_13 : decode b_X_buildTree 13 = .ok (.iconst 0, 1) := by decide +kernel
theorem d_X_buildTree_14 : decode b_X_buildTree 14 = .ok (.aload_n 0, 1) := by decide +kernel
theorem d_X_buildTree_15 : decode b_X_buildTree 15 = .ok (.getfield 124, 3) := by decide +kernel
theorem d_X_buildTree_18 : decode b_X_buildTree 18 = .ok (.iastore, 1) := by decide +kernel
theorem d_X_buildTree_19 : decode b_X_buildTree 19 = .ok (.iconst 0, 1) := by decide +kernel
theorem d_X_buildTree_20 : decode b_X_buildTree 20 = .ok (.istore_n 2, 1) := by decide +kernel
theorem d_X_buildTree_21 : decode b_X_buildTree 21 = .ok (.iload_n 2, 1) := by decide +kernel
theorem d_X_buildTree_22 : decode b_X_buildTree 22 = .ok (.bipush 63, 2) := by decide +kernel
theorem d_X_buildTree_24 : decode b_X_buildTree 24 = .ok (.if_icmp .ge 135, 3) := by decide +kernel
theorem d_X_buildTree_27 : decode b_X_buildTree 27 = .ok (.iload_n 2, 1) := by decide +kernel
theorem d_X_buildTree_28 : decode b_X_buildTree 28 = .ok (.iload_n 1, 1) := by decide +kernel
theorem d_X_buildTree_29 : decode b_X_buildTree 29 = .ok (.if_icmp .ge 130, 3) := by decide +kernel
theorem d_X_buildTree_32 : decode b_X_buildTree 32 = .ok (.aload_n 0, 1) := by decide +kernel
theorem d_X_buildTree_33 : decode b_X_buildTree 33 = .ok (.getfield 62, 3) := by decide +kernel
theorem d_X_buildTree_36 : decode b_X_buildTree 36 = .ok (.iload_n 2, 1) := by decide +kernel
theorem d_X_buildTree_37 : decode b_X_buildTree 37 = .ok (.iaload, 1) := by decide +kernel
theorem d_X_buildTree_38 : decode b_X_buildTree 38 = .ok (.istore_n 3, 1) := by decide +kernel
theorem d_X_buildTree_39 : decode b_X_buildTree 39 = .ok (.aload_n 0, 1) := by decide +kernel
theorem d_X_buildTree_40 : decode b_X_buildTree 40 = .ok (.getfield 65, 3) := by decide +kernel
theorem d_X_buildTree_43 : decode b_X_buildTree 43 = .ok (.iload_n 2, 1) := by decide +kernel
theorem d_X_buildTree_44 : decode b_X_buildTree 44 = .ok (.iaload, 1) := by decide +kernel
theorem d_X_buildTree_45 : decode b_X_buildTree 45 = .ok (.istore 4, 2) := by decide +kernel
theorem d_X_buildTree_47 : decode b_X_buildTree 47 = .ok (.iload 4, 2) := by decide +kernel
theorem d_X_buildTree_49 : decode b_X_buildTree 49 = .ok (.iload_n 3, 1) := by decide +kernel
theorem d_X_buildTree_50 : decode b_X_buildTree 50 = .ok (.isub, 1) := by decide +kernel
theorem d_X_buildTree_51 : decode b_X_buildTree 51 = .ok (.iconst 2, 1) := by decide +kernel
theorem d_X_buildTree_52 : decode b_X_buildTree 52 = .ok (.if_icmp .lt 9, 3) := by decide +kernel
theorem d_X_buildTree_55 : decode b_X_buildTree 55 = .ok (.iload_n 1, 1) := by decide +kernel
theorem d_X_buildTree_56 : decode b_X_buildTree 56 = .ok (.bipush 62, 2) := by decide +kernel
theorem d_X_buildTree_58 : decode b_X_buildTree 58 = .ok (.if_icmp .le 20, 3) := by decide +kernel
theorem d_X_buildTree_61 : decode b_X_buildTree 61 = .ok (.aload_n 0, 1) := by decide +kernel
theorem d_X_buildTree_62 : decode b_X_buildTree 62 = .ok (.getfield 53, 3) := by decide +kernel
theorem d_X_buildTree_65 : decode b_X_buildTree 65 = .ok (.iload_n 2, 1) := by decide +kernel
theorem d_X_buildTree_66 : decode b_X_buildTree 66 = .ok (.iconst (-1), 1) := by decide +kernel
theorem d_X_buildTree_67 : decode b_X_buildTree 67 = .ok (.iastore, 1) := by decide +kernel
theorem d_X_buildTree_68 : decode b_X_buildTree 68 = .ok (.aload_n 0, 1) := by decide +kernel
theorem d_X_buildTree_69 : decode b_X_buildTree 69 = .ok (.getfield 56, 3) := by decide +kernel
theorem d_X_buildTree_72 : decode b_X_buildTree 72 = .ok (.iload_n 2, 1) := by decide +kernel
theorem d_X_buildTree_73 : decode b_X_buildTree 73 = .ok (.iload_n 3, 1) := by decide +kernel
theorem d_X_buildTree_74 : decode b_X_buildTree 74 = .ok (.iastore, 1) := by decide +kernel
theorem d_X_buildTree_75 : decode b_X_buildTree 75 = .ok (.goto 78, 3) := by decide +kernel
theorem d_X_buildTree_78 : decode b_X_buildTree 78 = .ok (.iload_n 3, 1) := by decide +kernel
theorem d_X_buildTree_79 : decode b_X_buildTree 79 = .ok (.iload 4, 2) := by decide +kernel
theorem d_X_buildTree_81 : decode b_X_buildTree 81 = .ok (.iadd, 1) := by decide +kernel
theorem d_X_buildTree_82 : decode b_X_buildTree 82 = .ok (.iconst 1, 1) := by decide +kernel
theorem d_X_buildTree_83 : decode b_X_buildTree 83 = .ok (.ishr, 1) := by decide +kernel
theorem d_X_buildTree_84 : decode b_X_buildTree 84 = .ok (.istore 5, 2) := by decide +kernel
theorem d_X_buildTree_86 : decode b_X_buildTree 86 = .ok (.aload_n 0, 1) := by decide +kernel
theorem d_X_buildTree_87 : decode b_X_buildTree 87 = .ok (.getfield 53, 3) := by decide +kernel
theorem d_X_buildTree_90 : decode b_X_buildTree 90 = .ok (.iload_n 2, 1) := by decide +kernel
theorem d_X_buildTree_91 : decode b_X_buildTree 91 = .ok (.aload_n 0, 1) := by decide +kernel
theorem d_X_buildTree_92 : decode b_X_buildTree 92 = .ok (.getfield 41, 3) := by decide +kernel
theorem d_X_buildTree_95 : decode b_X_buildTree 95 = .ok (.iload 5, 2) := by decide +kernel
theorem d_X_buildTree_97 : decode b_X_buildTree 97 = .ok (.iaload, 1) := by decide +kernel
theorem d_X_buildTree_98 : decode b_X_buildTree 98 = .ok (.iastore, 1) := by decide +kernel
theorem d_X_buildTree_99 : decode b_X_buildTree 99 = .ok (.aload_n 0, 1) := by decide +kernel
theorem d_X_buildTree_100 : decode b_X_buildTree 100 = .ok (.getfield 56, 3) := by decide +kernel
theorem d_X_buildTree_103 : decode b_X_buildTree 103 = .ok (.iload_n 2, 1) := by decide +kernel
theorem d_X_buildTree_104 : decode b_X_buildTree 104 = .ok (.iload_n 1, 1) := by decide +kernel
theorem d_X_buildTree_105 : decode b_X_buildTree 105 = .ok (.iastore, 1) := by decide +kernel
theorem d_X_buildTree_106 : decode b_X_buildTree 106 = .ok (.aload_n 0, 1) := by decide +kernel
theorem d_X_buildTree_107 : decode b_X_buildTree 107 = .ok (.getfield 62, 3) := by decide +kernel
theorem d_X_buildTree_110 : decode b_X_buildTree 110 = .ok (.iload_n 1, 1) := by decide +kernel
theorem d_X_buildTree_111 : decode b_X_buildTree 111 = .ok (.iload_n 3, 1) := by decide +kernel
theorem d_X_buildTree_112 : decode b_X_buildTree 112 = .ok (.iastore, 1) := by decide +kernel
theorem d_X_buildTree_113 : decode b_X_buildTree 113 = .ok (.aload_n 0, 1) := by decide +kernel
theorem d_X_buildTree_114 : decode b_X_buildTree 114 = .ok (.getfield 65, 3) := by decide +kernel
theorem d_X_buildTree_117 : decode b_X_buildTree 117 = .ok (.iload_n 1, 1) := by decide +kernel
theorem d_X_buildTree_118 : decode b_X_buildTree 118 = .ok (.iload 5, 2) := by decide +kernel
theorem d_X_buildTree_120 : decode b_X_buildTree 120 = .ok (.iastore, 1) := by decide +kernel
theorem d_X_buildTree_121 : decode b_X_buildTree 121 = .ok (.aload_n 0, 1) := by decide +kernel
theorem d_X_buildTree_122 : decode b_X_buildTree 122 = .ok (.getfield 59, 3) := by decide +kernel
theorem d_X_buildTree_125 : decode b_X_buildTree 125 = .ok (.iload_n 2, 1) := by decide +kernel
theorem d_X_buildTree_126 : decode b_X_buildTree 126 = .ok (.iload_n 1, 1) := by decide +kernel
theorem d_X_buildTree_127 : decode b_X_buildTree 127 = .ok (.iconst 1, 1) := by decide +kernel
theorem d_X_buildTree_128 : decode b_X_buildTree 128 = .ok (.iadd, 1) := by decide +kernel
theorem d_X_buildTree_129 : decode b_X_buildTree 129 = .ok (.iastore, 1) := by decide +kernel
theorem d_X_buildTree_130 : decode b_X_buildTree 130 = .ok (.aload_n 0, 1) := by decide +kernel
theorem d_X_buildTree_131 : decode b_X_buildTree 131 = .ok (.getfield 62, 3) := by decide +kernel
theorem d_X_buildTree_134 : decode b_X_buildTree 134 = .ok (.iload_n 1, 1) := by decide +kernel
theorem d_X_buildTree_135 : decode b_X_buildTree 135 = .ok (.iconst 1, 1) := by decide +kernel
theorem d_X_buildTree_136 : decode b_X_buildTree 136 = .ok (.iadd, 1) := by decide +kernel
theorem d_X_buildTree_137 : decode b_X_buildTree 137 = .ok (.iload 5, 2) := by decide +kernel
theorem d_X_buildTree_139 : decode b_X_buildTree 139 = .ok (.iastore, 1) := by decide +kernel
theorem d_X_buildTree_140 : decode b_X_buildTree 140 = .ok (.aload_n 0, 1) := by decide +kernel
theorem d_X_buildTree_141 : decode b_X_buildTree 141 = .ok (.getfield 65, 3) := by decide +kernel
theorem d_X_buildTree_144 : decode b_X_buildTree 144 = .ok (.iload_n 1, 1) := by decide +kernel
theorem d_X_buildTree_145 : decode b_X_buildTree 145 = .ok (.iconst 1, 1) := by decide +kernel
theorem d_X_buildTree_146 : decode b_X_buildTree 146 = .ok (.iadd, 1) := by decide +kernel
theorem d_X_buildTree_147 : decode b_X_buildTree 147 = .ok (.iload 4, 2) := by decide +kernel
theorem d_X_buildTree_149 : decode b_X_buildTree 149 = .ok (.iastore, 1) := by decide +kernel
theorem d_X_buildTree_150 : decode b_X_buildTree 150 = .ok (.iinc 1 2, 3) := by decide +kernel
theorem d_X_buildTree_153 : decode b_X_buildTree 153 = .ok (.iinc 2 1, 3) := by decide +kernel
theorem d_X_buildTree_156 : decode b_X_buildTree 156 = .ok (.goto (-135), 3) := by decide +kernel
theorem d_X_buildTree_159 : decode b_X_buildTree 159 = .ok (.return_, 1) := by decide +kernel
end
section
-- decode rows, by names.py
theorem d_X_stretchOf_0 : decode b_X_stretchOf 0 = .ok (.iconst 0, 1) := by decide +kernel
theorem d_X_stretchOf_1 : decode b_X_stretchOf 1 = .ok (.istore_n 2, 1) := by decide +kernel
theorem d_X_stretchOf_2 : decode b_X_stretchOf 2 = .ok (.iconst 0, 1) := by decide +kernel
theorem d_X_stretchOf_3 : decode b_X_stretchOf 3 = .ok (.istore_n 3, 1) := by decide +kernel
theorem d_X_stretchOf_4 : decode b_X_stretchOf 4 = .ok (.iload_n 3, 1) := by decide +kernel
theorem d_X_stretchOf_5 : decode b_X_stretchOf 5 = .ok (.bipush 8, 2) := by decide +kernel
theorem d_X_stretchOf_7 : decode b_X_stretchOf 7 = .ok (.if_icmp .ge 45, 3) := by decide +kernel
theorem d_X_stretchOf_10 : decode b_X_stretchOf 10 = .ok (.aload_n 0, 1) := by decide +kernel
theorem d_X_stretchOf_11 : decode b_X_stretchOf 11 = .ok (.getfield 53, 3) := by decide +kernel
theorem d_X_stretchOf_14 : decode b_X_stretchOf 14 = .ok (.iload_n 2, 1) := by decide +kernel
theorem d_X_stretchOf_15 : decode b_X_stretchOf 15 = .ok (.iaload, 1) := by decide +kernel
theorem d_X_stretchOf_16 : decode b_X_stretchOf 16 = .ok (.iconst (-1), 1) := by decide +kernel
theorem d_X_stretchOf_17 : decode b_X_stretchOf 17 = .ok (.if_icmp .eq 35, 3) := by decide +kernel
theorem d_X_stretchOf_20 : decode b_X_stretchOf 20 = .ok (.iload_n 1, 1) := by decide +kernel
theorem d_X_stretchOf_21 : decode b_X_stretchOf 21 = .ok (.aload_n 0, 1) := by decide +kernel
theorem d_X_stretchOf_22 : decode b_X_stretchOf 22 = .ok (.getfield 53, 3) := by decide +kernel
theorem d_X_stretchOf_25 : decode b_X_stretchOf 25 = .ok (.iload_n 2, 1) := by decide +kernel
theorem d_X_stretchOf_26 : decode b_X_stretchOf 26 = .ok (.iaload, 1) := by decide +kernel
theorem d_X_stretchOf_27 : decode b_X_stretchOf 27 = .ok (.if_icmp .ge 12, 3) := by decide +kernel
theorem d_X_stretchOf_30 : decode b_X_stretchOf 30 = .ok (.aload_n 0, 1) := by decide +kernel
theorem d_X_stretchOf_31 : decode b_X_stretchOf 31 = .ok (.getfield 56, 3) := by decide +kernel
theorem d_X_stretchOf_34 : decode b_X_stretchOf 34 = .ok (.iload_n 2, 1) := by decide +kernel
theorem d_X_stretchOf_35 : decode b_X_stretchOf 35 = .ok (.iaload, 1) := by decide +kernel
theorem d_X_stretchOf_36 : decode b_X_stretchOf 36 = .ok (.goto 9, 3) := by decide +kernel
theorem d_X_stretchOf_39 : decode b_X_stretchOf 39 = .ok (.aload_n 0, 1) := by decide +kernel
theorem d_X_stretchOf_40 : decode b_X_stretchOf 40 = .ok (.getfield 59, 3) := by decide +kernel
theorem d_X_stretchOf_43 : decode b_X_stretchOf 43 = .ok (.iload_n 2, 1) := by decide +kernel
theorem d_X_stretchOf_44 : decode b_X_stretchOf 44 = .ok (.iaload, 1) := by decide +kernel
theorem d_X_stretchOf_45 : decode b_X_stretchOf 45 = .ok (.istore_n 2, 1) := by decide +kernel
theorem d_X_stretchOf_46 : decode b_X_stretchOf 46 = .ok (.iinc 3 1, 3) := by decide +kernel
theorem d_X_stretchOf_49 : decode b_X_stretchOf 49 = .ok (.goto (-45), 3) := by decide +kernel
theorem d_X_stretchOf_52 : decode b_X_stretchOf 52 = .ok (.aload_n 0, 1) := by decide +kernel
theorem d_X_stretchOf_53 : decode b_X_stretchOf 53 = .ok (.getfield 56, 3) := by decide +kernel
theorem d_X_stretchOf_56 : decode b_X_stretchOf 56 = .ok (.iload_n 2, 1) := by decide +kernel
theorem d_X_stretchOf_57 : decode b_X_stretchOf 57 = .ok (.iaload, 1) := by decide +kernel
theorem d_X_stretchOf_58 : decode b_X_stretchOf 58 = .ok (.ireturn, 1) := by decide +kernel
theorem d_X_meets_0 : decode b_X_meets 0 = .ok (.aload_n 0, 1) := by decide +kernel
theorem d_X_meets_1 : decode b_X_meets 1 = .ok (.getfield 68, 3) := by decide +kernel
theorem d_X_meets_4 : decode b_X_meets 4 = .ok (.aload_n 0, 1) := by decide +kernel
theorem d_X_meets_5 : decode b_X_meets 5 = .ok (.getfield 16, 3) := by decide +kernel
theorem d_X_meets_8 : decode b_X_meets 8 = .ok (.iload_n 1, 1) := by decide +kernel
theorem d_X_meets_9 : decode b_X_meets 9 = .ok (.iaload, 1) := by decide +kernel
theorem d_X_meets_10 : decode b_X_meets 10 = .ok (.iconst 3, 1) := by decide +kernel
theorem d_X_meets_11 : decode b_X_meets 11 = .ok (.ishr, 1) := by decide +kernel
theorem d_X_meets_12 : decode b_X_meets 12 = .ok (.iaload, 1) := by decide +kernel
theorem d_X_meets_13 : decode b_X_meets 13 = .ok (.aload_n 0, 1) := by decide +kernel
theorem d_X_meets_14 : decode b_X_meets 14 = .ok (.getfield 19, 3) := by decide +kernel
theorem d_X_meets_17 : decode b_X_meets 17 = .ok (.iload_n 1, 1) := by decide +kernel
theorem d_X_meets_18 : decode b_X_meets 18 = .ok (.iaload, 1) := by decide +kernel
theorem d_X_meets_19 : decode b_X_meets 19 = .ok (.iand, 1) := by decide +kernel
theorem d_X_meets_20 : decode b_X_meets 20 = .ok (.istore_n 2, 1) := by decide +kernel
theorem d_X_meets_21 : decode b_X_meets 21 = .ok (.aload_n 0, 1) := by decide +kernel
theorem d_X_meets_22 : decode b_X_meets 22 = .ok (.getfield 16, 3) := by decide +kernel
theorem d_X_meets_25 : decode b_X_meets 25 = .ok (.iload_n 1, 1) := by decide +kernel
theorem d_X_meets_26 : decode b_X_meets 26 = .ok (.iaload, 1) := by decide +kernel
theorem d_X_meets_27 : decode b_X_meets 27 = .ok (.bipush 7, 2) := by decide +kernel
theorem d_X_meets_29 : decode b_X_meets 29 = .ok (.iand, 1) := by decide +kernel
theorem d_X_meets_30 : decode b_X_meets 30 = .ok (.ifCond .ne 5, 3) := by decide +kernel
theorem d_X_meets_33 : decode b_X_meets 33 = .ok (.iconst 1, 1) := by decide +kernel
theorem d_X_meets_34 : decode b_X_meets 34 = .ok (.ireturn, 1) := by decide +kernel
theorem d_X_meets_35 : decode b_X_meets 35 = .ok (.aload_n 0, 1) := by decide +kernel
theorem d_X_meets_36 : decode b_X_meets 36 = .ok (.getfield 28, 3) := by decide +kernel
theorem d_X_meets_39 : decode b_X_meets 39 = .ok (.iload_n 1, 1) := by decide +kernel
theorem d_X_meets_40 : decode b_X_meets 40 = .ok (.iaload, 1) := by decide +kernel
theorem d_X_meets_41 : decode b_X_meets 41 = .ok (.iload_n 2, 1) := by decide +kernel
theorem d_X_meets_42 : decode b_X_meets 42 = .ok (.if_icmp .gt 17, 3) := by decide +kernel
theorem d_X_meets_45 : decode b_X_meets 45 = .ok (.iload_n 2, 1) := by decide +kernel
theorem d_X_meets_46 : decode b_X_meets 46 = .ok (.aload_n 0, 1) := by decide +kernel
theorem d_X_meets_47 : decode b_X_meets 47 = .ok (.getfield 31, 3) := by decide +kernel
theorem d_X_meets_50 : decode b_X_meets 50 = .ok (.iload_n 1, 1) := by decide +kernel
theorem d_X_meets_51 : decode b_X_meets 51 = .ok (.iaload, 1) := by decide +kernel
theorem d_X_meets_52 : decode b_X_meets 52 = .ok (.if_icmp .gt 7, 3) := by decide +kernel
theorem d_X_meets_55 : decode b_X_meets 55 = .ok (.iconst 1, 1) := by decide +kernel
theorem d_X_meets_56 : decode b_X_meets 56 = .ok (.goto 4, 3) := by decide +kernel
theorem d_X_meets_59 : decode b_X_meets 59 = .ok (.iconst 0, 1) := by decide +kernel
theorem d_X_meets_60 : decode b_X_meets 60 = .ok (.istore_n 3, 1) := by decide +kernel
theorem d_X_meets_61 : decode b_X_meets 61 = .ok (.iload_n 3, 1) := by decide +kernel
theorem d_X_meets_62 : decode b_X_meets 62 = .ok (.aload_n 0, 1) := by decide +kernel
theorem d_X_meets_63 : decode b_X_meets 63 = .ok (.getfield 34, 3) := by decide +kernel
theorem d_X_meets_66 : decode b_X_meets 66 = .ok (.iload_n 1, 1) := by decide +kernel
theorem d_X_meets_67 : decode b_X_meets 67 = .ok (.baload, 1) := by decide +kernel
theorem d_X_meets_68 : decode b_X_meets 68 = .ok (.if_icmp .eq 7, 3) := by decide +kernel
theorem d_X_meets_71 : decode b_X_meets 71 = .ok (.iconst 1, 1) := by decide +kernel
theorem d_X_meets_72 : decode b_X_meets 72 = .ok (.goto 4, 3) := by decide +kernel
theorem d_X_meets_75 : decode b_X_meets 75 = .ok (.iconst 0, 1) := by decide +kernel
theorem d_X_meets_76 : decode b_X_meets 76 = .ok (.ireturn, 1) := by decide +kernel
theorem d_X_holds_0 : decode b_X_holds 0 = .ok (.aload_n 0, 1) := by decide +kernel
theorem d_X_holds_1 : decode b_X_holds 1 = .ok (.iconst 2, 1) := by decide +kernel
theorem d_X_holds_2 : decode b_X_holds 2 = .ok (.iload_n 1, 1) := by decide +kernel
theorem d_X_holds_3 : decode b_X_holds 3 = .ok (.imul, 1) := by decide +kernel
theorem d_X_holds_4 : decode b_X_holds 4 = .ok (.invokevirtual 155, 3) := by decide +kernel
theorem d_X_holds_7 : decode b_X_holds 7 = .ok (.ifCond .eq 19, 3) := by decide +kernel
theorem d_X_holds_10 : decode b_X_holds 10 = .ok (.aload_n 0, 1) := by decide +kernel
theorem d_X_holds_11 : decode b_X_holds 11 = .ok (.iconst 2, 1) := by decide +kernel
theorem d_X_holds_12 : decode b_X_holds 12 = .ok (.iload_n 1, 1) := by decide +kernel
theorem d_X_holds_13 : decode b_X_holds 13 = .ok (.imul, 1) := by decide +kernel
theorem d_X_holds_14 : decode b_X_holds 14 = .ok (.iconst 1, 1) := by decide +kernel
theorem d_X_holds_15 : decode b_X_holds 15 = .ok (.iadd, 1) := by decide +kernel
theorem d_X_holds_16 : decode b_X_holds 16 = .ok (.invokevirtual 155, 3) := by decide +kernel
theorem d_X_holds_19 : decode b_X_holds 19 = .ok (.ifCond .eq 7, 3) := by decide +kernel
theorem d_X_holds_22 : decode b_X_holds 22 = .ok (.iconst 1, 1) := by decide +kernel
theorem d_X_holds_23 : decode b_X_holds 23 = .ok (.goto 4, 3) := by decide +kernel
theorem d_X_holds_26 : decode b_X_holds 26 = .ok (.iconst 0, 1) := by decide +kernel
theorem d_X_holds_27 : decode b_X_holds 27 = .ok (.ireturn, 1) := by decide +kernel
theorem d_X_follow_0 : decode b_X_follow 0 = .ok (.iload_n 1, 1) := by decide +kernel
theorem d_X_follow_1 : decode b_X_follow 1 = .ok (.istore_n 2, 1) := by decide +kernel
theorem d_X_follow_2 : decode b_X_follow 2 = .ok (.iconst 0, 1) := by decide +kernel
theorem d_X_follow_3 : decode b_X_follow 3 = .ok (.istore_n 3, 1) := by decide +kernel
theorem d_X_follow_4 : decode b_X_follow 4 = .ok (.iload_n 3, 1) := by decide +kernel
theorem d_X_follow_5 : decode b_X_follow 5 = .ok (.bipush 12, 2) := by decide +kernel
theorem d_X_follow_7 : decode b_X_follow 7 = .ok (.if_icmp .ge 41, 3) := by decide +kernel
theorem d_X_follow_10 : decode b_X_follow 10 = .ok (.iload_n 2, 1) := by decide +kernel
theorem d_X_follow_11 : decode b_X_follow 11 = .ok (.iconst (-1), 1) := by decide +kernel
theorem d_X_follow_12 : decode b_X_follow 12 = .ok (.if_icmp .eq 36, 3) := by decide +kernel
theorem d_X_follow_15 : decode b_X_follow 15 = .ok (.aload_n 0, 1) := by decide +kernel
theorem d_X_follow_16 : decode b_X_follow 16 = .ok (.aload_n 0, 1) := by decide +kernel
theorem d_X_follow_17 : decode b_X_follow 17 = .ok (.getfield 47, 3) := by decide +kernel
theorem d_X_follow_20 : decode b_X_follow 20 = .ok (.iload_n 2, 1) := by decide +kernel
theorem d_X_follow_21 : decode b_X_follow 21 = .ok (.iaload, 1) := by decide +kernel
theorem d_X_follow_22 : decode b_X_follow 22 = .ok (.invokevirtual 127, 3) := by decide +kernel
theorem d_X_follow_25 : decode b_X_follow 25 = .ok (.ifCond .eq 10, 3) := by decide +kernel
theorem d_X_follow_28 : decode b_X_follow 28 = .ok (.aload_n 0, 1) := by decide +kernel
theorem d_X_follow_29 : decode b_X_follow 29 = .ok (.getfield 47, 3) := by decide +kernel
theorem d_X_follow_32 : decode b_X_follow 32 = .ok (.iload_n 2, 1) := by decide +kernel
theorem d_X_follow_33 : decode b_X_follow 33 = .ok (.iaload, 1) := by decide +kernel
theorem d_X_follow_34 : decode b_X_follow 34 = .ok (.ireturn, 1) := by decide +kernel
theorem d_X_follow_35 : decode b_X_follow 35 = .ok (.aload_n 0, 1) := by decide +kernel
theorem d_X_follow_36 : decode b_X_follow 36 = .ok (.getfield 50, 3) := by decide +kernel
theorem d_X_follow_39 : decode b_X_follow 39 = .ok (.iload_n 2, 1) := by decide +kernel
theorem d_X_follow_40 : decode b_X_follow 40 = .ok (.iaload, 1) := by decide +kernel
theorem d_X_follow_41 : decode b_X_follow 41 = .ok (.istore_n 2, 1) := by decide +kernel
theorem d_X_follow_42 : decode b_X_follow 42 = .ok (.iinc 3 1, 3) := by decide +kernel
theorem d_X_follow_45 : decode b_X_follow 45 = .ok (.goto (-41), 3) := by decide +kernel
theorem d_X_follow_48 : decode b_X_follow 48 = .ok (.iconst (-1), 1) := by decide +kernel
theorem d_X_follow_49 : decode b_X_follow 49 = .ok (.ireturn, 1) := by decide +kernel
theorem d_X_verdict_0 : decode b_X_verdict 0 = .ok (.aload_n 0, 1) := by decide +kernel
theorem d_X_verdict_1 : decode b_X_verdict 1 = .ok (.aload_n 0, 1) := by decide +kernel
theorem d_X_verdict_2 : decode b_X_verdict 2 = .ok (.getfield 44, 3) := by decide +kernel
theorem d_X_verdict_5 : decode b_X_verdict 5 = .ok (.iload_n 1, 1) := by decide +kernel
theorem d_X_verdict_6 : decode b_X_verdict 6 = .ok (.iaload, 1) := by decide +kernel
theorem d_X_verdict_7 : decode b_X_verdict 7 = .ok (.invokevirtual 121, 3) := by decide +kernel
theorem d_X_verdict_10 : decode b_X_verdict 10 = .ok (.istore_n 2, 1) := by decide +kernel
theorem d_X_verdict_11 : decode b_X_verdict 11 = .ok (.iload_n 2, 1) := by decide +kernel
theorem d_X_verdict_12 : decode b_X_verdict 12 = .ok (.iconst (-1), 1) := by decide +kernel
theorem d_X_verdict_13 : decode b_X_verdict 13 = .ok (.if_icmp .ne 10, 3) := by decide +kernel
theorem d_X_verdict_16 : decode b_X_verdict 16 = .ok (.aload_n 0, 1) := by decide +kernel
theorem d_X_verdict_17 : decode b_X_verdict 17 = .ok (.getfield 108, 3) := by decide +kernel
theorem d_X_verdict_20 : decode b_X_verdict 20 = .ok (.goto 9, 3) := by decide +kernel
theorem d_X_verdict_23 : decode b_X_verdict 23 = .ok (.aload_n 0, 1) := by decide +kernel
theorem d_X_verdict_24 : decode b_X_verdict 24 = .ok (.getfield 25, 3) := by decide +kernel
theorem d_X_verdict_27 : decode b_X_verdict 27 = .ok (.iload_n 2, 1) := by decide +kernel
theorem d_X_verdict_28 : decode b_X_verdict 28 = .ok (.iaload, 1) := by decide +kernel
theorem d_X_verdict_29 : decode b_X_verdict 29 = .ok (.ireturn, 1) := by decide +kernel
theorem d_M_init_0 : decode b_M_init 0 = .ok (.aload_n 0, 1) := by decide +kernel
theorem d_M_init_1 : decode b_M_init 1 = .ok (.invokespecial 1, 3) := by decide +kernel
theorem d_M_init_4 : decode b_M_init 4 = .ok (.aload_n 0, 1) := by decide +kernel
theorem d_M_init_5 : decode b_M_init 5 = .ok (.bipush 14, 2) := by decide +kernel
theorem d_M_init_7 : decode b_M_init 7 = .ok (.newarray .int, 2) := by decide +kernel
theorem d_M_init_9 : decode b_M_init 9 = .ok (.putfield 7, 3) := by decide +kernel
theorem d_M_init_12 : decode b_M_init 12 = .ok (.aload_n 0, 1) := by decide +kernel
theorem d_M_init_13 : decode b_M_init 13 = .ok (.bipush 14, 2) := by decide +kernel
theorem d_M_init_15 : decode b_M_init 15 = .ok (.newarray .int, 2) := by decide +kernel
theorem d_M_init_17 : decode b_M_init 17 = .ok (.putfield 13, 3) := by decide +kernel
theorem d_M_init_20 : decode b_M_init 20 = .ok (.aload_n 0, 1) := by decide +kernel
theorem d_M_init_21 : decode b_M_init 21 = .ok (.bipush 14, 2) := by decide +kernel
theorem d_M_init_23 : decode b_M_init 23 = .ok (.newarray .int, 2) := by decide +kernel
theorem d_M_init_25 : decode b_M_init 25 = .ok (.putfield 16, 3) := by decide +kernel
theorem d_M_init_28 : decode b_M_init 28 = .ok (.aload_n 0, 1) := by decide +kernel
theorem d_M_init_29 : decode b_M_init 29 = .ok (.bipush 28, 2) := by decide +kernel
theorem d_M_init_31 : decode b_M_init 31 = .ok (.newarray .int, 2) := by decide +kernel
theorem d_M_init_33 : decode b_M_init 33 = .ok (.putfield 19, 3) := by decide +kernel
theorem d_M_init_36 : decode b_M_init 36 = .ok (.aload_n 0, 1) := by decide +kernel
theorem d_M_init_37 : decode b_M_init 37 = .ok (.bipush 28, 2) := by decide +kernel
theorem d_M_init_39 : decode b_M_init 39 = .ok (.newarray .int, 2) := by decide +kernel
theorem d_M_init_41 : decode b_M_init 41 = .ok (.putfield 22, 3) := by decide +kernel
theorem d_M_init_44 : decode b_M_init 44 = .ok (.aload_n 0, 1) := by decide +kernel
theorem d_M_init_45 : decode b_M_init 45 = .ok (.bipush 28, 2) := by decide +kernel
theorem d_M_init_47 : decode b_M_init 47 = .ok (.newarray .int, 2) := by decide +kernel
theorem d_M_init_49 : decode b_M_init 49 = .ok (.putfield 25, 3) := by decide +kernel
theorem d_M_init_52 : decode b_M_init 52 = .ok (.aload_n 0, 1) := by decide +kernel
theorem d_M_init_53 : decode b_M_init 53 = .ok (.iconst 2, 1) := by decide +kernel
theorem d_M_init_54 : decode b_M_init 54 = .ok (.newarray .int, 2) := by decide +kernel
theorem d_M_init_56 : decode b_M_init 56 = .ok (.putfield 28, 3) := by decide +kernel
theorem d_M_init_59 : decode b_M_init 59 = .ok (.aload_n 0, 1) := by decide +kernel
theorem d_M_init_60 : decode b_M_init 60 = .ok (.getfield 13, 3) := by decide +kernel
theorem d_M_init_63 : decode b_M_init 63 = .ok (.bipush 12, 2) := by decide +kernel
theorem d_M_init_65 : decode b_M_init 65 = .ok (.bipush 31, 2) := by decide +kernel
theorem d_M_init_67 : decode b_M_init 67 = .ok (.iastore, 1) := by decide +kernel
theorem d_M_init_68 : decode b_M_init 68 = .ok (.return_, 1) := by decide +kernel
theorem d_M_badNumber_0 : decode b_M_badNumber 0 = .ok (.iload_n 1, 1) := by decide +kernel
theorem d_M_badNumber_1 : decode b_M_badNumber 1 = .ok (.ifCond .lt 9, 3) := by decide +kernel
theorem d_M_badNumber_4 : decode b_M_badNumber 4 = .ok (.iload_n 1, 1) := by decide +kernel
theorem d_M_badNumber_5 : decode b_M_badNumber 5 = .ok (.bipush 31, 2) := by decide +kernel
theorem d_M_badNumber_7 : decode b_M_badNumber 7 = .ok (.if_icmp .le 7, 3) := by decide +kernel
theorem d_M_badNumber_10 : decode b_M_badNumber 10 = .ok (.iconst 1, 1) := by decide +kernel
theorem d_M_badNumber_11 : decode b_M_badNumber 11 = .ok (.goto 4, 3) := by decide +kernel
theorem d_M_badNumber_14 : decode b_M_badNumber 14 = .ok (.iconst 0, 1) := by decide +kernel
theorem d_M_badNumber_15 : decode b_M_badNumber 15 = .ok (.ireturn, 1) := by decide +kernel
theorem d_M_badAction_0 : decode b_M_badAction 0 = .ok (.iload_n 1, 1) := by decide +kernel
theorem d_M_badAction_1 : decode b_M_badAction 1 = .ok (.ifCond .lt 8, 3) := by decide +kernel
theorem d_M_badAction_4 : decode b_M_badAction 4 = .ok (.iload_n 1, 1) := by decide +kernel
theorem d_M_badAction_5 : decode b_M_badAction 5 = .ok (.iconst 3, 1) := by decide +kernel
theorem d_M_badAction_6 : decode b_M_badAction 6 = .ok (.if_icmp .le 7, 3) := by decide +kernel
theorem d_M_badAction_9 : decode b_M_badAction 9 = .ok (.iconst 1, 1) := by decide +kernel
theorem d_M_badAction_10 : decode b_M_badAction 10 = .ok (.goto 4, 3) := by decide +kernel
theorem d_M_badAction_13 : decode b_M_badAction 13 = .ok (.iconst 0, 1) := by decide +kernel
theorem d_M_badAction_14 : decode b_M_badAction 14 = .ok (.ireturn, 1) := by decide +kernel
theorem d_M_badRule_0 : decode b_M_badRule 0 = .ok (.iload_n 1, 1) := by decide +kernel
theorem d_M_badRule_1 : decode b_M_badRule 1 = .ok (.ifCond .lt 17, 3) := by decide +kernel
theorem d_M_badRule_4 : decode b_M_badRule 4 = .ok (.iload_n 1, 1) := by decide +kernel
theorem d_M_badRule_5 : decode b_M_badRule 5 = .ok (.aload_n 0, 1) := by decide +kernel
theorem d_M_badRule_6 : decode b_M_badRule 6 = .ok (.getfield 31, 3) := by decide +kernel
theorem d_M_badRule_9 : decode b_M_badRule 9 = .ok (.if_icmp .ge 9, 3) := by decide +kernel
theorem d_M_badRule_12 : decode b_M_badRule 12 = .ok (.iload_n 1, 1) := by decide +kernel
theorem d_M_badRule_13 : decode b_M_badRule 13 = .ok (.bipush 12, 2) := by decide +kernel
theorem d_M_badRule_15 : decode b_M_badRule 15 = .ok (.if_icmp .lt 7, 3) := by decide +kernel
theorem d_M_badRule_18 : decode b_M_badRule 18 = .ok (.iconst 1, 1) := by decide +kernel
theorem d_M_badRule_19 : decode b_M_badRule 19 = .ok (.goto 4, 3) := by decide +kernel
theorem d_M_badRule_22 : decode b_M_badRule 22 = .ok (.iconst 0, 1) := by decide +kernel
theorem d_M_badRule_23 : decode b_M_badRule 23 = .ok (.ireturn, 1) := by decide +kernel
theorem d_M_range_0 : decode b_M_range 0 = .ok (.aload_n 0, 1) := by decide +kernel
theorem d_M_range_1 : decode b_M_range 1 = .ok (.iload_n 1, 1) := by decide +kernel
theorem d_M_range_2 : decode b_M_range 2 = .ok (.invokevirtual 35, 3) := by decide +kernel
theorem d_M_range_5 : decode b_M_range 5 = .ok (.ifCond .ne 11, 3) := by decide +kernel
theorem d_M_range_8 : decode b_M_range 8 = .ok (.aload_n 0, 1) := by decide +kernel
theorem d_M_range_9 : decode b_M_range 9 = .ok (.iload_n 2, 1) := by decide +kernel
theorem d_M_range_10 : decode b_M_range 10 = .ok (.invokevirtual 35, 3) := by decide +kernel
theorem d_M_range_13 : decode b_M_range 13 = .ok (.ifCond .eq 5, 3) := by decide +kernel
theorem d_M_range_16 : decode b_M_range 16 = .ok (.iconst (-1), 1) := by decide +kernel
theorem d_M_range_17 : decode b_M_range 17 = .ok (.ireturn, 1) := by decide +kernel
theorem d_M_range_18 : decode b_M_range 18 = .ok (.iload_n 1, 1) := by decide +kernel
theorem d_M_range_19 : decode b_M_range 19 = .ok (.iload_n 2, 1) := by decide +kernel
theorem d_M_range_20 : decode b_M_range 20 = .ok (.if_icmp .le 6, 3) := by decide +kernel
theorem d_M_range_23 : decode b_M_range 23 = .ok (.bipush (-2), 2) := by decide +kernel
theorem d_M_range_25 : decode b_M_range 25 = .ok (.ireturn, 1) := by decide +kernel
theorem d_M_range_26 : decode b_M_range 26 = .ok (.aload_n 0, 1) := by decide +kernel
theorem d_M_range_27 : decode b_M_range 27 = .ok (.getfield 7, 3) := by decide +kernel
theorem d_M_range_30 : decode b_M_range 30 = .ok (.bipush 12, 2) := by decide +kernel
theorem d_M_range_32 : decode b_M_range 32 = .ok (.iload_n 1, 1) := by decide +kernel
theorem d_M_range_33 : decode b_M_range 33 = .ok (.iastore, 1) := by decide +kernel
theorem d_M_range_34 : decode b_M_range 34 = .ok (.aload_n 0, 1) := by decide +kernel
theorem d_M_range_35 : decode b_M_range 35 = .ok (.getfield 13, 3) := by decide +kernel
theorem d_M_range_38 : decode b_M_range 38 = .ok (.bipush 12, 2) := by decide +kernel
theorem d_M_range_40 : decode b_M_range 40 = .ok (.iload_n 2, 1) := by decide +kernel
theorem d_M_range_41 : decode b_M_range 41 = .ok (.iastore, 1) := by decide +kernel
theorem d_M_range_42 : decode b_M_range 42 = .ok (.iconst 0, 1) := by decide +kernel
theorem d_M_range_43 : decode b_M_range 43 = .ok (.ireturn, 1) := by decide +kernel
theorem d_M_condition_0 : decode b_M_condition 0 = .ok (.iload_n 1, 1) := by decide +kernel
theorem d_M_condition_1 : decode b_M_condition 1 = .ok (.ifCond .lt 8, 3) := by decide +kernel
theorem d_M_condition_4 : decode b_M_condition 4 = .ok (.iload_n 1, 1) := by decide +kernel
theorem d_M_condition_5 : decode b_M_condition 5 = .ok (.iconst 1, 1) := by decide +kernel
theorem d_M_condition_6 : decode b_M_condition 6 = .ok (.if_icmp .le 5, 3) := by decide +kernel
theorem d_M_condition_9 : decode b_M_condition 9 = .ok (.iconst (-1), 1) := by decide +kernel
theorem d_M_condition_10 : decode b_M_condition 10 = .ok (.ireturn, 1) := by decide +kernel
theorem d_M_condition_11 : decode b_M_condition 11 = .ok (.iload_n 2, 1) := by decide +kernel
theorem d_M_condition_12 : decode b_M_condition 12 = .ok (.ifCond .lt 18, 3) := by decide +kernel
theorem d_M_condition_15 : decode b_M_condition 15 = .ok (.iload_n 2, 1) := by decide +kernel
theorem d_M_condition_16 : decode b_M_condition 16 = .ok (.bipush 15, 2) := by decide +kernel
theorem d_M_condition_18 : decode b_M_condition 18 = .ok (.if_icmp .gt 12, 3) := by decide +kernel
theorem d_M_condition_21 : decode b_M_condition 21 = .ok (.iload_n 2, 1) := by decide +kernel
theorem d_M_condition_22 : decode b_M_condition 22 = .ok (.bipush 8, 2) := by decide +kernel
theorem d_M_condition_24 : decode b_M_condition 24 = .ok (.irem, 1) := by decide +kernel
theorem d_M_condition_25 : decode b_M_condition 25 = .ok (.bipush 7, 2) := by decide +kernel
theorem d_M_condition_27 : decode b_M_condition 27 = .ok (.if_icmp .ne 6, 3) := by decide +kernel
theorem d_M_condition_30 : decode b_M_condition 30 = .ok (.bipush (-2), 2) := by decide +kernel
theorem d_M_condition_32 : decode b_M_condition 32 = .ok (.ireturn, 1) := by decide +kernel
theorem d_M_condition_33 : decode b_M_condition 33 = .ok (.aload_n 0, 1) := by decide +kernel
theorem d_M_condition_34 : decode b_M_condition 34 = .ok (.getfield 19, 3) := by decide +kernel
theorem d_M_condition_37 : decode b_M_condition 37 = .ok (.bipush 24, 2) := by decide +kernel
theorem d_M_condition_39 : decode b_M_condition 39 = .ok (.iload_n 1, 1) := by decide +kernel
theorem d_M_condition_40 : decode b_M_condition 40 = .ok (.iadd, 1) := by decide +kernel
theorem d_M_condition_41 : decode b_M_condition 41 = .ok (.iload_n 2, 1) := by decide +kernel
theorem d_M_condition_42 : decode b_M_condition 42 = .ok (.iastore, 1) := by decide +kernel
theorem d_M_condition_43 : decode b_M_condition 43 = .ok (.aload_n 0, 1) := by decide +kernel
theorem d_M_condition_44 : decode b_M_condition 44 = .ok (.getfield 22, 3) := by decide +kernel
theorem d_M_condition_47 : decode b_M_condition 47 = .ok (.bipush 24, 2) := by decide +kernel
theorem d_M_condition_49 : decode b_M_condition 49 = .ok (.iload_n 1, 1) := by decide +kernel
theorem d_M_condition_50 : decode b_M_condition 50 = .ok (.iadd, 1) := by decide +kernel
theorem d_M_condition_51 : decode b_M_condition 51 = .ok (.iload_n 3, 1) := by decide +kernel
theorem d_M_condition_52 : decode b_M_condition 52 = .ok (.iastore, 1) := by decide +kernel
theorem d_M_condition_53 : decode b_M_condition 53 = .ok (.aload_n 0, 1) := by decide +kernel
theorem d_M_condition_54 : decode b_M_condition 54 = .ok (.getfield 25, 3) := by decide +kernel
theorem d_M_condition_57 : decode b_M_condition 57 = .ok (.bipush 24, 2) := by decide +kernel
theorem d_M_condition_59 : decode b_M_condition 59 = .ok (.iload_n 1, 1) := by decide +kernel
theorem d_M_condition_60 : decode b_M_condition 60 = .ok (.iadd, 1) := by decide +kernel
theorem d_M_condition_61 : decode b_M_condition 61 = .ok (.iload 4, 2) := by decide +kernel
theorem d_M_condition_63 : decode b_M_condition 63 = .ok (.iastore, 1) := by decide +kernel
theorem d_M_condition_64 : decode b_M_condition 64 = .ok (.iconst 0, 1) := by decide +kernel
theorem d_M_condition_65 : decode b_M_condition 65 = .ok (.ireturn, 1) := by decide +kernel
theorem d_M_copy_0 : decode b_M_copy 0 = .ok (.aload_n 0, 1) := by decide +kernel
theorem d_M_copy_1 : decode b_M_copy 1 = .ok (.getfield 7, 3) := by decide +kernel
theorem d_M_copy_4 : decode b_M_copy 4 = .ok (.iload_n 2, 1) := by decide +kernel
theorem d_M_copy_5 : decode b_M_copy 5 = .ok (.aload_n 0, 1) := by decide +kernel
theorem d_M_copy_6 : decode b_M_copy 6 = .ok (.getfield 7, 3) := by decide +kernel
theorem d_M_copy_9 : decode b_M_copy 9 = .ok (.iload_n 1, 1) := by decide +kernel
theorem d_M_copy_10 : decode b_M_copy 10 = .ok (.iaload, 1) := by decide +kernel
theorem d_M_copy_11 : decode b_M_copy 11 = .ok (.iastore, 1) := by decide +kernel
theorem d_M_copy_12 : decode b_M_copy 12 = .ok (.aload_n 0, 1) := by decide +kernel
theorem d_M_copy_13 : decode b_M_copy 13 = .ok (.getfield 13, 3) := by decide +kernel
theorem d_M_copy_16 : decode b_M_copy 16 = .ok (.iload_n 2, 1) := by decide +kernel
theorem d_M_copy_17 : decode b_M_copy 17 = .ok (.aload_n 0, 1) := by decide +kernel
theorem d_M_copy_18 : decode b_M_copy 18 = .ok (.getfield 13, 3) := by decide +kernel
theorem d_M_copy_21 : decode b_M_copy 21 = .ok (.iload_n 1, 1) := by decide +kernel
theorem d_M_copy_22 : decode b_M_copy 22 = .ok (.iaload, 1) := by decide +kernel
theorem d_M_copy_23 : decode b_M_copy 23 = .ok (.iastore, 1) := by decide +kernel
theorem d_M_copy_24 : decode b_M_copy 24 = .ok (.aload_n 0, 1) := by decide +kernel
theorem d_M_copy_25 : decode b_M_copy 25 = .ok (.getfield 16, 3) := by decide +kernel
theorem d_M_copy_28 : decode b_M_copy 28 = .ok (.iload_n 2, 1) := by decide +kernel
theorem d_M_copy_29 : decode b_M_copy 29 = .ok (.aload_n 0, 1) := by decide +kernel
theorem d_M_copy_30 : decode b_M_copy 30 = .ok (.getfield 16, 3) := by decide +kernel
theorem d_M_copy_33 : decode b_M_copy 33 = .ok (.iload_n 1, 1) := by decide +kernel
theorem d_M_copy_34 : decode b_M_copy 34 = .ok (.iaload, 1) := by decide +kernel
theorem d_M_copy_35 : decode b_M_copy 35 = .ok (.iastore, 1) := by decide +kernel
theorem d_M_copy_36 : decode b_M_copy 36 = .ok (.iconst 0, 1) := by decide +kernel
theorem d_M_copy_37 : decode b_M_copy 37 = .ok (.istore_n 3, 1) := by decide +kernel
theorem d_M_copy_38 : decode b_M_copy 38 = .ok (.iload_n 3, 1) := by decide +kernel
theorem d_M_copy_39 : decode b_M_copy 39 = .ok (.iconst 2, 1) := by decide +kernel
theorem d_M_copy_40 : decode b_M_copy 40 = .ok (.if_icmp .ge 69, 3) := by decide +kernel
theorem d_M_copy_43 : decode b_M_copy 43 = .ok (.aload_n 0, 1) := by decide +kernel
theorem d_M_copy_44 : decode b_M_copy 44 = .ok (.getfield 19, 3) := by decide +kernel
theorem d_M_copy_47 : decode b_M_copy 47 = .ok (.iconst 2, 1) := by decide +kernel
theorem d_M_copy_48 : decode b_M_copy 48 = .ok (.iload_n 2, 1) := by decide +kernel
theorem d_M_copy_49 : decode b_M_copy 49 = .ok (.imul, 1) := by decide +kernel
theorem d_M_copy_50 : decode b_M_copy 50 = .ok (.iload_n 3, 1) := by decide +kernel
theorem d_M_copy_51 : decode b_M_copy 51 = .ok (.iadd, 1) := by decide +kernel
theorem d_M_copy_52 : decode b_M_copy 52 = .ok (.aload_n 0, 1) := by decide +kernel
theorem d_M_copy_53 : decode b_M_copy 53 = .ok (.getfield 19, 3) := by decide +kernel
theorem d_M_copy_56 : decode b_M_copy 56 = .ok (.iconst 2, 1) := by decide +kernel
theorem d_M_copy_57 : decode b_M_copy 57 = .ok (.iload_n 1, 1) := by decide +kernel
theorem d_M_copy_58 : decode b_M_copy 58 = .ok (.imul, 1) := by decide +kernel
theorem d_M_copy_59 : decode b_M_copy 59 = .ok (.iload_n 3, 1) := by decide +kernel
theorem d_M_copy_60 : decode b_M_copy 60 = .ok (.iadd, 1) := by decide +kernel
theorem d_M_copy_61 : decode b_M_copy 61 = .ok (.iaload, 1) := by decide +kernel
theorem d_M_copy_62 : decode b_M_copy 62 = .ok (.iastore, 1) := by decide +kernel
theorem d_M_copy_63 : decode b_M_copy 63 = .ok (.aload_n 0, 1) := by decide +kernel
theorem d_M_copy_64 : decode b_M_copy 64 = .ok (.getfield 22, 3) := by decide +kernel
theorem d_M_copy_67 : decode b_M_copy 67 = .ok (.iconst 2, 1) := by decide +kernel
theorem d_M_copy_68 : decode b_M_copy 68 = .ok (.iload_n 2, 1) := by decide +kernel
theorem d_M_copy_69 : decode b_M_copy 69 = .ok (.imul, 1) := by decide +kernel
theorem d_M_copy_70 : decode b_M_copy 70 = .ok (.iload_n 3, 1) := by decide +kernel
theorem d_M_copy_71 : decode b_M_copy 71 = .ok (.iadd, 1) := by decide +kernel
theorem d_M_copy_72 : decode b_M_copy 72 = .ok (.aload_n 0, 1) := by decide +kernel
theorem d_M_copy_73 : decode b_M_copy 73 = .ok (.getfield 22, 3) := by decide +kernel
theorem d_M_copy_76 : decode b_M_copy 76 = .ok (.iconst 2, 1) := by decide +kernel
theorem d_M_copy_77 : decode b_M_copy 77 = .ok (.iload_n 1, 1) := by decide +kernel
theorem d_M_copy_78 : decode b_M_copy 78 = .ok (.imul, 1) := by decide +kernel
theorem d_M_copy_79 : decode b_M_copy 79 = .ok (.iload_n 3, 1) := by decide +kernel
theorem d_M_copy_80 : decode b_M_copy 80 = .ok (.iadd, 1) := by decide +kernel
theorem d_M_copy_81 : decode b_M_copy 81 = .ok (.iaload, 1) := by decide +kernel
theorem d_M_copy_82 : decode b_M_copy 82 = .ok (.iastore, 1) := by decide +kernel
theorem d_M_copy_83 : decode b_M_copy 83 = .ok (.aload_n 0, 1) := by decide +kernel
theorem d_M_copy_84 : decode b_M_copy 84 = .ok (.getfield 25, 3) := by decide +kernel
theorem d_M_copy_87 : decode b_M_copy 87 = .ok (.iconst 2, 1) := by decide +kernel
theorem d_M_copy_88 : decode b_M_copy 88 = .ok (.iload_n 2, 1) := by decide +kernel
theorem d_M_copy_89 : decode b_M_copy 89 = .ok (.imul, 1) := by decide +kernel
theorem d_M_copy_90 : decode b_M_copy 90 = .ok (.iload_n 3, 1) := by decide +kernel
theorem d_M_copy_91 : decode b_M_copy 91 = .ok (.iadd, 1) := by decide +kernel
theorem d_M_copy_92 : decode b_M_copy 92 = .ok (.aload_n 0, 1) := by decide +kernel
theorem d_M_copy_93 : decode b_M_copy 93 = .ok (.getfield 25, 3) := by decide +kernel
theorem d_M_copy_96 : decode b_M_copy 96 = .ok (.iconst 2, 1) := by decide +kernel
theorem d_M_copy_97 : decode b_M_copy 97 = .ok (.iload_n 1, 1) := by decide +kernel
theorem d_M_copy_98 : decode b_M_copy 98 = .ok (.imul, 1) := by decide +kernel
theorem d_M_copy_99 : decode b_M_copy 99 = .ok (.iload_n 3, 1) := by decide +kernel
theorem d_M_copy_100 : decode b_M_copy 100 = .ok (.iadd, 1) := by decide +kernel
theorem d_M_copy_101 : decode b_M_copy 101 = .ok (.iaload, 1) := by decide +kernel
theorem d_M_copy_102 : decode b_M_copy 102 = .ok (.iastore, 1) := by decide +kernel
theorem d_M_copy_103 : decode b_M_copy 103 = .ok (.iinc 3 1, 3) := by decide +kernel
theorem d_M_copy_106 : decode b_M_copy 106 = .ok (.goto (-68), 3) := by decide +kernel
theorem d_M_copy_109 : decode b_M_copy 109 = .ok (.return_, 1) := by decide +kernel
theorem d_M_insert_0 : decode b_M_insert 0 = .ok (.aload_n 0, 1) := by decide +kernel
theorem d_M_insert_1 : decode b_M_insert 1 = .ok (.getfield 31, 3) := by decide +kernel
theorem d_M_insert_4 : decode b_M_insert 4 = .ok (.istore_n 3, 1) := by decide +kernel
theorem d_M_insert_5 : decode b_M_insert 5 = .ok (.iload_n 3, 1) := by decide +kernel
theorem d_M_insert_6 : decode b_M_insert 6 = .ok (.iload_n 1, 1) := by decide +kernel
theorem d_M_insert_7 : decode b_M_insert 7 = .ok (.if_icmp .le 23, 3) := by decide +kernel
theorem d_M_insert_10 : decode b_M_insert 10 = .ok (.iload_n 3, 1) := by decide +kernel
theorem d_M_insert_11 : decode b_M_insert 11 = .ok (.bipush 11, 2) := by decide +kernel
theorem d_M_insert_13 : decode b_M_insert 13 = .ok (.if_icmp .gt 17, 3) := by decide +kernel
theorem d_M_insert_16 : decode b_M_insert 16 = .ok (.aload_n 0, 1) := by decide +kernel
theorem d_M_insert_17 : decode b_M_insert 17 = .ok (.iload_n 3, 1) := by decide +kernel
theorem d_M_insert_18 : decode b_M_insert 18 = .ok (.iconst 1, 1) := by decide +kernel
theorem d_M_insert_19 : decode b_M_insert 19 = .ok (.isub, 1) := by decide +kernel
theorem d_M_insert_20 : decode b_M_insert 20 = .ok (.iload_n 3, 1) := by decide +kernel
theorem d_M_insert_21 : decode b_M_insert 21 = .ok (.invokevirtual 39, 3) := by decide +kernel
theorem d_M_insert_24 : decode b_M_insert 24 = .ok (.iinc 3 (-1), 3) := by decide +kernel
theorem d_M_insert_27 : decode b_M_insert 27 = .ok (.goto (-22), 3) := by decide +kernel
theorem d_M_insert_30 : decode b_M_insert 30 = .ok (.aload_n 0, 1) := by decide +kernel
theorem d_M_insert_31 : decode b_M_insert 31 = .ok (.iload_n 2, 1) := by decide +kernel
theorem d_M_insert_32 : decode b_M_insert 32 = .ok (.iload_n 1, 1) := by decide +kernel
theorem d_M_insert_33 : decode b_M_insert 33 = .ok (.invokevirtual 39, 3) := by decide +kernel
theorem d_M_insert_36 : decode b_M_insert 36 = .ok (.aload_n 0, 1) := by decide +kernel
theorem d_M_insert_37 : decode b_M_insert 37 = .ok (.dup, 1) := by decide +kernel
theorem d_M_insert_38 : decode b_M_insert 38 = .ok (.getfield 31, 3) := by decide +kernel
theorem d_M_insert_41 : decode b_M_insert 41 = .ok (.iconst 1, 1) := by decide +kernel
theorem d_M_insert_42 : decode b_M_insert 42 = .ok (.iadd, 1) := by decide +kernel
theorem d_M_insert_43 : decode b_M_insert 43 = .ok (.putfield 31, 3) := by decide +kernel
theorem d_M_insert_46 : decode b_M_insert 46 = .ok (.return_, 1) := by decide +kernel
theorem d_M_takeOut_0 : decode b_M_takeOut 0 = .ok (.iload_n 1, 1) := by decide +kernel
theorem d_M_takeOut_1 : decode b_M_takeOut 1 = .ok (.istore_n 2, 1) := by decide +kernel
theorem d_M_takeOut_2 : decode b_M_takeOut 2 = .ok (.iload_n 2, 1) := by decide +kernel
theorem d_M_takeOut_3 : decode b_M_takeOut 3 = .ok (.aload_n 0, 1) := by decide +kernel
theorem d_M_takeOut_4 : decode b_M_takeOut 4 = .ok (.getfield 31, 3) := by decide +kernel
theorem d_M_takeOut_7 : decode b_M_takeOut 7 = .ok (.iconst 1, 1) := by decide +kernel
theorem d_M_takeOut_8 : decode b_M_takeOut 8 = .ok (.isub, 1) := by decide +kernel
theorem d_M_takeOut_9 : decode b_M_takeOut 9 = .ok (.if_icmp .ge 23, 3) := by decide +kernel
theorem d_M_takeOut_12 : decode b_M_takeOut 12 = .ok (.iload_n 2, 1) := by decide +kernel
theorem d_M_takeOut_13 : decode b_M_takeOut 13 = .ok (.bipush 11, 2) := by decide +kernel
theorem d_M_takeOut_15 : decode b_M_takeOut 15 = .ok (.if_icmp .ge 17, 3) := by decide +kernel
theorem d_M_takeOut_18 : decode b_M_takeOut 18 = .ok (.aload_n 0, 1) := by decide +kernel
theorem d_M_takeOut_19 : decode b_M_takeOut 19 = .ok (.iload_n 2, 1) := by decide +kernel
theorem d_M_takeOut_20 : decode b_M_takeOut 20 = .ok (.iconst 1, 1) := by decide +kernel
theorem d_M_takeOut_21 : decode b_M_takeOut 21 = .ok (.iadd, 1) := by decide +kernel
theorem d_M_takeOut_22 : decode b_M_takeOut 22 = .ok (.iload_n 2, 1) := by decide +kernel
theorem d_M_takeOut_23 : decode b_M_takeOut 23 = .ok (.invokevirtual 39, 3) := by decide +kernel
theorem d_M_takeOut_26 : decode b_M_takeOut 26 = .ok (.iinc 2 1, 3) := by decide +kernel
theorem d_M_takeOut_29 : decode b_M_takeOut 29 = .ok (.goto (-27), 3) := by decide +kernel
theorem d_M_takeOut_32 : decode b_M_takeOut 32 = .ok (.aload_n 0, 1) := by decide +kernel
theorem d_M_takeOut_33 : decode b_M_takeOut 33 = .ok (.dup, 1) := by decide +kernel
theorem d_M_takeOut_34 : decode b_M_takeOut 34 = .ok (.getfield 31, 3) := by decide +kernel
theorem d_M_takeOut_37 : decode b_M_takeOut 37 = .ok (.iconst 1, 1) := by decide +kernel
theorem d_M_takeOut_38 : decode b_M_takeOut 38 = .ok (.isub, 1) := by decide +kernel
theorem d_M_takeOut_39 : decode b_M_takeOut 39 = .ok (.putfield 31, 3) := by decide +kernel
theorem d_M_takeOut_42 : decode b_M_takeOut 42 = .ok (.return_, 1) := by decide +kernel
theorem d_M_put_0 : decode b_M_put 0 = .ok (.iload_n 1, 1) := by decide +kernel
theorem d_M_put_1 : decode b_M_put 1 = .ok (.ifCond .lt 11, 3) := by decide +kernel
theorem d_M_put_4 : decode b_M_put 4 = .ok (.iload_n 1, 1) := by decide +kernel
theorem d_M_put_5 : decode b_M_put 5 = .ok (.aload_n 0, 1) := by decide +kernel
theorem d_M_put_6 : decode b_M_put 6 = .ok (.getfield 31, 3) := by decide +kernel
theorem d_M_put_9 : decode b_M_put 9 = .ok (.if_icmp .le 5, 3) := by decide +kernel
theorem d_M_put_12 : decode b_M_put 12 = .ok (.iconst (-1), 1) := by decide +kernel
theorem d_M_put_13 : decode b_M_put 13 = .ok (.ireturn, 1) := by decide +kernel
theorem d_M_put_14 : decode b_M_put 14 = .ok (.aload_n 0, 1) := by decide +kernel
theorem d_M_put_15 : decode b_M_put 15 = .ok (.iload_n 2, 1) := by decide +kernel
theorem d_M_put_16 : decode b_M_put 16 = .ok (.invokevirtual 43, 3) := by decide +kernel
theorem d_M_put_19 : decode b_M_put 19 = .ok (.ifCond .eq 6, 3) := by decide +kernel
theorem d_M_put_22 : decode b_M_put 22 = .ok (.bipush (-2), 2) := by decide +kernel
theorem d_M_put_24 : decode b_M_put 24 = .ok (.ireturn, 1) := by decide +kernel
theorem d_M_put_25 : decode b_M_put 25 = .ok (.aload_n 0, 1) := by decide +kernel
theorem d_M_put_26 : decode b_M_put 26 = .ok (.getfield 31, 3) := by decide +kernel
theorem d_M_put_29 : decode b_M_put 29 = .ok (.bipush 12, 2) := by decide +kernel
theorem d_M_put_31 : decode b_M_put 31 = .ok (.if_icmp .lt 6, 3) := by decide +kernel
theorem d_M_put_34 : decode b_M_put 34 = .ok (.bipush (-3), 2) := by decide +kernel
theorem d_M_put_36 : decode b_M_put 36 = .ok (.ireturn, 1) := by decide +kernel
theorem d_M_put_37 : decode b_M_put 37 = .ok (.aload_n 0, 1) := by decide +kernel
theorem d_M_put_38 : decode b_M_put 38 = .ok (.getfield 16, 3) := by decide +kernel
theorem d_M_put_41 : decode b_M_put 41 = .ok (.bipush 12, 2) := by decide +kernel
theorem d_M_put_43 : decode b_M_put 43 = .ok (.iload_n 2, 1) := by decide +kernel
theorem d_M_put_44 : decode b_M_put 44 = .ok (.iastore, 1) := by decide +kernel
theorem d_M_put_45 : decode b_M_put 45 = .ok (.aload_n 0, 1) := by decide +kernel
theorem d_M_put_46 : decode b_M_put 46 = .ok (.iload_n 1, 1) := by decide +kernel
theorem d_M_put_47 : decode b_M_put 47 = .ok (.bipush 12, 2) := by decide +kernel
theorem d_M_put_49 : decode b_M_put 49 = .ok (.invokevirtual 46, 3) := by decide +kernel
theorem d_M_put_52 : decode b_M_put 52 = .ok (.aload_n 0, 1) := by decide +kernel
theorem d_M_put_53 : decode b_M_put 53 = .ok (.getfield 31, 3) := by decide +kernel
theorem d_M_put_56 : decode b_M_put 56 = .ok (.ireturn, 1) := by decide +kernel
theorem d_M_remove_0 : decode b_M_remove 0 = .ok (.aload_n 0, 1) := by decide +kernel
theorem d_M_remove_1 : decode b_M_remove 1 = .ok (.iload_n 1, 1) := by decide +kernel
theorem d_M_remove_2 : decode b_M_remove 2 = .ok (.invokevirtual 49, 3) := by decide +kernel
theorem d_M_remove_5 : decode b_M_remove 5 = .ok (.ifCond .eq 5, 3) := by decide +kernel
theorem d_M_remove_8 : decode b_M_remove 8 = .ok (.iconst (-1), 1) := by decide +kernel
theorem d_M_remove_9 : decode b_M_remove 9 = .ok (.ireturn, 1) := by decide +kernel
theorem d_M_remove_10 : decode b_M_remove 10 = .ok (.aload_n 0, 1) := by decide +kernel
theorem d_M_remove_11 : decode b_M_remove 11 = .ok (.getfield 16, 3) := by decide +kernel
theorem d_M_remove_14 : decode b_M_remove 14 = .ok (.iload_n 1, 1) := by decide +kernel
theorem d_M_remove_15 : decode b_M_remove 15 = .ok (.iaload, 1) := by decide +kernel
theorem d_M_remove_16 : decode b_M_remove 16 = .ok (.istore_n 2, 1) := by decide +kernel
theorem d_M_remove_17 : decode b_M_remove 17 = .ok (.aload_n 0, 1) := by decide +kernel
theorem d_M_remove_18 : decode b_M_remove 18 = .ok (.iload_n 1, 1) := by decide +kernel
theorem d_M_remove_19 : decode b_M_remove 19 = .ok (.invokevirtual 52, 3) := by decide +kernel
theorem d_M_remove_22 : decode b_M_remove 22 = .ok (.iload_n 2, 1) := by decide +kernel
theorem d_M_remove_23 : decode b_M_remove 23 = .ok (.ireturn, 1) := by decide +kernel
theorem d_M_move_0 : decode b_M_move 0 = .ok (.aload_n 0, 1) := by decide +kernel
theorem d_M_move_1 : decode b_M_move 1 = .ok (.iload_n 1, 1) := by decide +kernel
theorem d_M_move_2 : decode b_M_move 2 = .ok (.invokevirtual 49, 3) := by decide +kernel
theorem d_M_move_5 : decode b_M_move 5 = .ok (.ifCond .eq 5, 3) := by decide +kernel
theorem d_M_move_8 : decode b_M_move 8 = .ok (.iconst (-1), 1) := by decide +kernel
theorem d_M_move_9 : decode b_M_move 9 = .ok (.ireturn, 1) := by decide +kernel
theorem d_M_move_10 : decode b_M_move 10 = .ok (.aload_n 0, 1) := by decide +kernel
theorem d_M_move_11 : decode b_M_move 11 = .ok (.iload_n 2, 1) := by decide +kernel
theorem d_M_move_12 : decode b_M_move 12 = .ok (.invokevirtual 49, 3) := by decide +kernel
theorem d_M_move_15 : decode b_M_move 15 = .ok (.ifCond .eq 6, 3) := by decide +kernel
theorem d_M_move_18 : decode b_M_move 18 = .ok (.bipush (-2), 2) := by decide +kernel
theorem d_M_move_20 : decode b_M_move 20 = .ok (.ireturn, 1) := by decide +kernel
theorem d_M_move_21 : decode b_M_move 21 = .ok (.aload_n 0, 1) := by decide +kernel
theorem d_M_move_22 : decode b_M_move 22 = .ok (.iload_n 1, 1) := by decide +kernel
theorem d_M_move_23 : decode b_M_move 23 = .ok (.bipush 13, 2) := by decide +kernel
theorem d_M_move_25 : decode b_M_move 25 = .ok (.invokevirtual 39, 3) := by decide +kernel
theorem d_M_move_28 : decode b_M_move 28 = .ok (.aload_n 0, 1) := by decide +kernel
theorem d_M_move_29 : decode b_M_move 29 = .ok (.iload_n 1, 1) := by decide +kernel
theorem d_M_move_30 : decode b_M_move 30 = .ok (.invokevirtual 52, 3) := by decide +kernel
theorem d_M_move_33 : decode b_M_move 33 = .ok (.aload_n 0, 1) := by decide +kernel
theorem d_M_move_34 : decode b_M_move 34 = .ok (.iload_n 2, 1) := by decide +kernel
theorem d_M_move_35 : decode b_M_move 35 = .ok (.bipush 13, 2) := by decide +kernel
theorem d_M_move_37 : decode b_M_move 37 = .ok (.invokevirtual 46, 3) := by decide +kernel
theorem d_M_move_40 : decode b_M_move 40 = .ok (.iconst 0, 1) := by decide +kernel
theorem d_M_move_41 : decode b_M_move 41 = .ok (.ireturn, 1) := by decide +kernel
theorem d_M_change_0 : decode b_M_change 0 = .ok (.aload_n 0, 1) := by decide +kernel
theorem d_M_change_1 : decode b_M_change 1 = .ok (.iload_n 1, 1) := by decide +kernel
theorem d_M_change_2 : decode b_M_change 2 = .ok (.invokevirtual 49, 3) := by decide +kernel
theorem d_M_change_5 : decode b_M_change 5 = .ok (.ifCond .eq 5, 3) := by decide +kernel
theorem d_M_change_8 : decode b_M_change 8 = .ok (.iconst (-1), 1) := by decide +kernel
theorem d_M_change_9 : decode b_M_change 9 = .ok (.ireturn, 1) := by decide +kernel
theorem d_M_change_10 : decode b_M_change 10 = .ok (.aload_n 0, 1) := by decide +kernel
theorem d_M_change_11 : decode b_M_change 11 = .ok (.iload_n 2, 1) := by decide +kernel
theorem d_M_change_12 : decode b_M_change 12 = .ok (.invokevirtual 43, 3) := by decide +kernel
theorem d_M_change_15 : decode b_M_change 15 = .ok (.ifCond .eq 6, 3) := by decide +kernel
theorem d_M_change_18 : decode b_M_change 18 = .ok (.bipush (-2), 2) := by decide +kernel
theorem d_M_change_20 : decode b_M_change 20 = .ok (.ireturn, 1) := by decide +kernel
theorem d_M_change_21 : decode b_M_change 21 = .ok (.aload_n 0, 1) := by decide +kernel
theorem d_M_change_22 : decode b_M_change 22 = .ok (.getfield 16, 3) := by decide +kernel
theorem d_M_change_25 : decode b_M_change 25 = .ok (.iload_n 1, 1) := by decide +kernel
theorem d_M_change_26 : decode b_M_change 26 = .ok (.iaload, 1) := by decide +kernel
theorem d_M_change_27 : decode b_M_change 27 = .ok (.istore_n 3, 1) := by decide +kernel
theorem d_M_change_28 : decode b_M_change 28 = .ok (.aload_n 0, 1) := by decide +kernel
theorem d_M_change_29 : decode b_M_change 29 = .ok (.getfield 16, 3) := by decide +kernel
theorem d_M_change_32 : decode b_M_change 32 = .ok (.iload_n 1, 1) := by decide +kernel
theorem d_M_change_33 : decode b_M_change 33 = .ok (.iload_n 2, 1) := by decide +kernel
theorem d_M_change_34 : decode b_M_change 34 = .ok (.iastore, 1) := by decide +kernel
theorem d_M_change_35 : decode b_M_change 35 = .ok (.iload_n 3, 1) := by decide +kernel
theorem d_M_change_36 : decode b_M_change 36 = .ok (.ireturn, 1) := by decide +kernel
theorem d_M_fallback_0 : decode b_M_fallback 0 = .ok (.aload_n 0, 1) := by decide +kernel
theorem d_M_fallback_1 : decode b_M_fallback 1 = .ok (.iload_n 1, 1) := by decide +kernel
theorem d_M_fallback_2 : decode b_M_fallback 2 = .ok (.invokevirtual 43, 3) := by decide +kernel
theorem d_M_fallback_5 : decode b_M_fallback 5 = .ok (.ifCond .eq 5, 3) := by decide +kernel
theorem d_M_fallback_8 : decode b_M_fallback 8 = .ok (.iconst (-1), 1) := by decide +kernel
theorem d_M_fallback_9 : decode b_M_fallback 9 = .ok (.ireturn, 1) := by decide +kernel
theorem d_M_fallback_10 : decode b_M_fallback 10 = .ok (.aload_n 0, 1) := by decide +kernel
theorem d_M_fallback_11 : decode b_M_fallback 11 = .ok (.getfield 56, 3) := by decide +kernel
theorem d_M_fallback_14 : decode b_M_fallback 14 = .ok (.istore_n 2, 1) := by decide +kernel
theorem d_M_fallback_15 : decode b_M_fallback 15 = .ok (.aload_n 0, 1) := by decide +kernel
theorem d_M_fallback_16 : decode b_M_fallback 16 = .ok (.iload_n 1, 1) := by decide +kernel
theorem d_M_fallback_17 : decode b_M_fallback 17 = .ok (.putfield 56, 3) := by decide +kernel
theorem d_M_fallback_20 : decode b_M_fallback 20 = .ok (.iload_n 2, 1) := by decide +kernel
theorem d_M_fallback_21 : decode b_M_fallback 21 = .ok (.ireturn, 1) := by decide +kernel
theorem d_M_rules_0 : decode b_M_rules 0 = .ok (.aload_n 0, 1) := by decide +kernel
theorem d_M_rules_1 : decode b_M_rules 1 = .ok (.getfield 31, 3) := by decide +kernel
theorem d_M_rules_4 : decode b_M_rules 4 = .ok (.ireturn, 1) := by decide +kernel
theorem d_M_argument_0 : decode b_M_argument 0 = .ok (.iload_n 1, 1) := by decide +kernel
theorem d_M_argument_1 : decode b_M_argument 1 = .ok (.ifCond .lt 8, 3) := by decide +kernel
theorem d_M_argument_4 : decode b_M_argument 4 = .ok (.iload_n 1, 1) := by decide +kernel
theorem d_M_argument_5 : decode b_M_argument 5 = .ok (.iconst 1, 1) := by decide +kernel
theorem d_M_argument_6 : decode b_M_argument 6 = .ok (.if_icmp .le 5, 3) := by decide +kernel
theorem d_M_argument_9 : decode b_M_argument 9 = .ok (.iconst (-1), 1) := by decide +kernel
theorem d_M_argument_10 : decode b_M_argument 10 = .ok (.ireturn, 1) := by decide +kernel
theorem d_M_argument_11 : decode b_M_argument 11 = .ok (.aload_n 0, 1) := by decide +kernel
theorem d_M_argument_12 : decode b_M_argument 12 = .ok (.getfield 28, 3) := by decide +kernel
theorem d_M_argument_15 : decode b_M_argument 15 = .ok (.iload_n 1, 1) := by decide +kernel
theorem d_M_argument_16 : decode b_M_argument 16 = .ok (.iload_n 2, 1) := by decide +kernel
theorem d_M_argument_17 : decode b_M_argument 17 = .ok (.iastore, 1) := by decide +kernel
theorem d_M_argument_18 : decode b_M_argument 18 = .ok (.iconst 0, 1) := by decide +kernel
theorem d_M_argument_19 : decode b_M_argument 19 = .ok (.ireturn, 1) := by decide +kernel
theorem d_M_met_0 : decode b_M_met 0 = .ok (.aload_n 0, 1) := by decide +kernel
theorem d_M_met_1 : decode b_M_met 1 = .ok (.getfield 19, 3) := by decide +kernel
theorem d_M_met_4 : decode b_M_met 4 = .ok (.iload_n 1, 1) := by decide +kernel
theorem d_M_met_5 : decode b_M_met 5 = .ok (.iaload, 1) := by decide +kernel
theorem d_M_met_6 : decode b_M_met 6 = .ok (.bipush 8, 2) := by decide +kernel
theorem d_M_met_8 : decode b_M_met 8 = .ok (.irem, 1) := by decide +kernel
theorem d_M_met_9 : decode b_M_met 9 = .ok (.istore_n 2, 1) := by decide +kernel
theorem d_M_met_10 : decode b_M_met 10 = .ok (.iload_n 2, 1) := by decide +kernel
theorem d_M_met_11 : decode b_M_met 11 = .ok (.ifCond .ne 5, 3) := by decide +kernel
theorem d_M_met_14 : decode b_M_met 14 = .ok (.iconst 1, 1) := by decide +kernel
theorem d_M_met_15 : decode b_M_met 15 = .ok (.ireturn, 1) := by decide +kernel
theorem d_M_met_16 : decode b_M_met 16 = .ok (.aload_n 0, 1) := by decide +kernel
theorem d_M_met_17 : decode b_M_met 17 = .ok (.getfield 28, 3) := by decide +kernel
theorem d_M_met_20 : decode b_M_met 20 = .ok (.aload_n 0, 1) := by decide +kernel
theorem d_M_met_21 : decode b_M_met 21 = .ok (.getfield 19, 3) := by decide +kernel
theorem d_M_met_24 : decode b_M_met 24 = .ok (.iload_n 1, 1) := by decide +kernel
theorem d_M_met_25 : decode b_M_met 25 = .ok (.iaload, 1) := by decide +kernel
theorem d_M_met_26 : decode b_M_met 26 = .ok (.bipush 8, 2) := by decide +kernel
theorem d_M_met_28 : decode b_M_met 28 = .ok (.idiv, 1) := by decide +kernel
theorem d_M_met_29 : decode b_M_met 29 = .ok (.iconst 1, 1) := by decide +kernel
theorem d_M_met_30 : decode b_M_met 30 = .ok (.iand, 1) := by decide +kernel
theorem d_M_met_31 : decode b_M_met 31 = .ok (.iaload, 1) := by decide +kernel
theorem d_M_met_32 : decode b_M_met 32 = .ok (.aload_n 0, 1) := by decide +kernel
theorem d_M_met_33 : decode b_M_met 33 = .ok (.getfield 22, 3) := by decide +kernel
theorem d_M_met_36 : decode b_M_met 36 = .ok (.iload_n 1, 1) := by decide +kernel
theorem d_M_met_37 : decode b_M_met 37 = .ok (.iaload, 1) := by decide +kernel
theorem d_M_met_38 : decode b_M_met 38 = .ok (.iand, 1) := by decide +kernel
theorem d_M_met_39 : decode b_M_met 39 = .ok (.istore_n 3, 1) := by decide +kernel
theorem d_M_met_40 : decode b_M_met 40 = .ok (.aload_n 0, 1) := by decide +kernel
theorem d_M_met_41 : decode b_M_met 41 = .ok (.getfield 25, 3) := by decide +kernel
theorem d_M_met_44 : decode b_M_met 44 = .ok (.iload_n 1, 1) := by decide +kernel
theorem d_M_met_45 : decode b_M_met 45 = .ok (.iaload, 1) := by decide +kernel
theorem d_M_met_46 : decode b_M_met 46 = .ok (.istore 4, 2) := by decide +kernel
theorem d_M_met_48 : decode b_M_met 48 = .ok (.iload_n 2, 1) := by decide +kernel
theorem d_M_met_49 : decode b_M_met 49 = .ok (.iconst 1, 1) := by decide +kernel
theorem d_M_met_50 : decode b_M_met 50 = .ok (.if_icmp .ne 15, 3) := by decide +kernel
theorem d_M_met_53 : decode b_M_met 53 = .ok (.iload_n 3, 1) := by decide +kernel
theorem d_M_met_54 : decode b_M_met 54 = .ok (.iload 4, 2) := by decide +kernel
theorem d_M_met_56 : decode b_M_met 56 = .ok (.if_icmp .ne 7, 3) := by decide +kernel
theorem d_M_met_59 : decode b_M_met 59 = .ok (.iconst 1, 1) := by decide +kernel
theorem d_M_met_60 : decode b_M_met 60 = .ok (.goto 4, 3) := by decide +kernel
theorem d_M_met_63 : decode b_M_met 63 = .ok (.iconst 0, 1) := by decide +kernel
theorem d_M_met_64 : decode b_M_met 64 = .ok (.ireturn, 1) := by decide +kernel
theorem d_M_met_65 : decode b_M_met 65 = .ok (.iload_n 2, 1) := by decide +kernel
theorem d_M_met_66 : decode b_M_met 66 = .ok (.iconst 2, 1) := by decide +kernel
theorem d_M_met_67 : decode b_M_met 67 = .ok (.if_icmp .ne 15, 3) := by decide +kernel
theorem d_M_met_70 : decode b_M_met 70 = .ok (.iload_n 3, 1) := by decide +kernel
theorem d_M_met_71 : decode b_M_met 71 = .ok (.iload 4, 2) := by decide +kernel
theorem d_M_met_73 : decode b_M_met 73 = .ok (.if_icmp .eq 7, 3) := by decide +kernel
theorem d_M_met_76 : decode b_M_met 76 = .ok (.iconst 1, 1) := by decide +kernel
theorem d_M_met_77 : decode b_M_met 77 = .ok (.goto 4, 3) := by decide +kernel
theorem d_M_met_80 : decode b_M_met 80 = .ok (.iconst 0, 1) := by decide +kernel
theorem d_M_met_81 : decode b_M_met 81 = .ok (.ireturn, 1) := by decide +kernel
theorem d_M_met_82 : decode b_M_met 82 = .ok (.iload_n 2, 1) := by decide +kernel
theorem d_M_met_83 : decode b_M_met 83 = .ok (.iconst 3, 1) := by decide +kernel
theorem d_M_met_84 : decode b_M_met 84 = .ok (.if_icmp .ne 15, 3) := by decide +kernel
theorem d_M_met_87 : decode b_M_met 87 = .ok (.iload_n 3, 1) := by decide +kernel
theorem d_M_met_88 : decode b_M_met 88 = .ok (.iload 4, 2) := by decide +kernel
theorem d_M_met_90 : decode b_M_met 90 = .ok (.if_icmp .ge 7, 3) := by decide +kernel
theorem d_M_met_93 : decode b_M_met 93 = .ok (.iconst 1, 1) := by decide +kernel
theorem d_M_met_94 : decode b_M_met 94 = .ok (.goto 4, 3) := by decide +kernel
theorem d_M_met_97 : decode b_M_met 97 = .ok (.iconst 0, 1) := by decide +kernel
theorem d_M_met_98 : decode b_M_met 98 = .ok (.ireturn, 1) := by decide +kernel
theorem d_M_met_99 : decode b_M_met 99 = .ok (.iload_n 2, 1) := by decide +kernel
theorem d_M_met_100 : decode b_M_met 100 = .ok (.iconst 4, 1) := by decide +kernel
theorem d_M_met_101 : decode b_M_met 101 = .ok (.if_icmp .ne 15, 3) := by decide +kernel
theorem d_M_met_104 : decode b_M_met 104 = .ok (.iload_n 3, 1) := by decide +kernel
theorem d_M_met_105 : decode b_M_met 105 = .ok (.iload 4, 2) := by decide +kernel
theorem d_M_met_107 : decode b_M_met 107 = .ok (.if_icmp .gt 7, 3) := by decide +kernel
theorem d_M_met_110 : decode b_M_met 110 = .ok (.iconst 1, 1) := by decide +kernel
theorem d_M_met_111 : decode b_M_met 111 = .ok (.goto 4, 3) := by decide +kernel
theorem d_M_met_114 : decode b_M_met 114 = .ok (.iconst 0, 1) := by decide +kernel
theorem d_M_met_115 : decode b_M_met 115 = .ok (.ireturn, 1) := by decide +kernel
theorem d_M_met_116 : decode b_M_met 116 = .ok (.iload_n 2, 1) := by decide +kernel
theorem d_M_met_117 : decode b_M_met 117 = .ok (.iconst 5, 1) := by decide +kernel
theorem d_M_met_118 : decode b_M_met 118 = .ok (.if_icmp .ne 15, 3) := by decide +kernel
theorem d_M_met_121 : decode b_M_met 121 = .ok (.iload_n 3, 1) := by decide +kernel
theorem d_M_met_122 : decode b_M_met 122 = .ok (.iload 4, 2) := by decide +kernel
theorem d_M_met_124 : decode b_M_met 124 = .ok (.if_icmp .le 7, 3) := by decide +kernel
theorem d_M_met_127 : decode b_M_met 127 = .ok (.iconst 1, 1) := by decide +kernel
theorem d_M_met_128 : decode b_M_met 128 = .ok (.goto 4, 3) := by decide +kernel
theorem d_M_met_131 : decode b_M_met 131 = .ok (.iconst 0, 1) := by decide +kernel
theorem d_M_met_132 : decode b_M_met 132 = .ok (.ireturn, 1) := by decide +kernel
theorem d_M_met_133 : decode b_M_met 133 = .ok (.iload_n 3, 1) := by decide +kernel
theorem d_M_met_134 : decode b_M_met 134 = .ok (.iload 4, 2) := by decide +kernel
theorem d_M_met_136 : decode b_M_met 136 = .ok (.if_icmp .lt 7, 3) := by decide +kernel
theorem d_M_met_139 : decode b_M_met 139 = .ok (.iconst 1, 1) := by decide +kernel
theorem d_M_met_140 : decode b_M_met 140 = .ok (.goto 4, 3) := by decide +kernel
theorem d_M_met_143 : decode b_M_met 143 = .ok (.iconst 0, 1) := by decide +kernel
theorem d_M_met_144 : decode b_M_met 144 = .ok (.ireturn, 1) := by decide +kernel
end
section
-- decode rows, by names.py
theorem d_M_has_0 : decode b_M_has 0 = .ok (.aload_n 0, 1) := by decide +kernel
theorem d_M_has_1 : decode b_M_has 1 = .ok (.getfield 7, 3) := by decide +kernel
theorem d_M_has_4 : decode b_M_has 4 = .ok (.iload_n 1, 1) := by decide +kernel
theorem d_M_has_5 : decode b_M_has 5 = .ok (.iaload, 1) := by decide +kernel
theorem d_M_has_6 : decode b_M_has 6 = .ok (.iload_n 2, 1) := by decide +kernel
theorem d_M_has_7 : decode b_M_has 7 = .ok (.if_icmp .gt 17, 3) := by decide +kernel
theorem d_M_has_10 : decode b_M_has 10 = .ok (.iload_n 2, 1) := by decide +kernel
theorem d_M_has_11 : decode b_M_has 11 = .ok (.aload_n 0, 1) := by decide +kernel
theorem d_M_has_12 : decode b_M_has 12 = .ok (.getfield 13, 3) := by decide +kernel
theorem d_M_has_15 : decode b_M_has 15 = .ok (.iload_n 1, 1) := by decide +kernel
theorem d_M_has_16 : decode b_M_has 16 = .ok (.iaload, 1) := by decide +kernel
theorem d_M_has_17 : decode b_M_has 17 = .ok (.if_icmp .gt 7, 3) := by decide +kernel
theorem d_M_has_20 : decode b_M_has 20 = .ok (.iconst 1, 1) := by decide +kernel
theorem d_M_has_21 : decode b_M_has 21 = .ok (.goto 4, 3) := by decide +kernel
theorem d_M_has_24 : decode b_M_has 24 = .ok (.iconst 0, 1) := by decide +kernel
theorem d_M_has_25 : decode b_M_has 25 = .ok (.ireturn, 1) := by decide +kernel
theorem d_M_matches_0 : decode b_M_matches 0 = .ok (.aload_n 0, 1) := by decide +kernel
theorem d_M_matches_1 : decode b_M_matches 1 = .ok (.iload_n 1, 1) := by decide +kernel
theorem d_M_matches_2 : decode b_M_matches 2 = .ok (.iload_n 2, 1) := by decide +kernel
theorem d_M_matches_3 : decode b_M_matches 3 = .ok (.invokevirtual 59, 3) := by decide +kernel
theorem d_M_matches_6 : decode b_M_matches 6 = .ok (.ifCond .eq 29, 3) := by decide +kernel
theorem d_M_matches_9 : decode b_M_matches 9 = .ok (.aload_n 0, 1) := by decide +kernel
theorem d_M_matches_10 : decode b_M_matches 10 = .ok (.iconst 2, 1) := by decide +kernel
theorem d_M_matches_11 : decode b_M_matches 11 = .ok (.iload_n 1, 1) := by decide +kernel
theorem d_M_matches_12 : decode b_M_matches 12 = .ok (.imul, 1) := by decide +kernel
theorem d_M_matches_13 : decode b_M_matches 13 = .ok (.invokevirtual 63, 3) := by decide +kernel
theorem d_M_matches_16 : decode b_M_matches 16 = .ok (.ifCond .eq 19, 3) := by decide +kernel
theorem d_M_matches_19 : decode b_M_matches 19 = .ok (.aload_n 0, 1) := by decide +kernel
theorem d_M_matches_20 : decode b_M_matches 20 = .ok (.iconst 2, 1) := by decide +kernel
theorem d_M_matches_21 : decode b_M_matches 21 = .ok (.iload_n 1, 1) := by decide +kernel
theorem d_M_matches_22 : decode b_M_matches 22 = .ok (.imul, 1) := by decide +kernel
theorem d_M_matches_23 : decode b_M_matches 23 = .ok (.iconst 1, 1) := by decide +kernel
theorem d_M_matches_24 : decode b_M_matches 24 = .ok (.iadd, 1) := by decide +kernel
theorem d_M_matches_25 : decode b_M_matches 25 = .ok (.invokevirtual 63, 3) := by decide +kernel
theorem d_M_matches_28 : decode b_M_matches 28 = .ok (.ifCond .eq 7, 3) := by decide +kernel
theorem d_M_matches_31 : decode b_M_matches 31 = .ok (.iconst 1, 1) := by decide +kernel
theorem d_M_matches_32 : decode b_M_matches 32 = .ok (.goto 4, 3) := by decide +kernel
theorem d_M_matches_35 : decode b_M_matches 35 = .ok (.iconst 0, 1) := by decide +kernel
theorem d_M_matches_36 : decode b_M_matches 36 = .ok (.ireturn, 1) := by decide +kernel
theorem d_M_firstMatch_0 : decode b_M_firstMatch 0 = .ok (.iconst 0, 1) := by decide +kernel
theorem d_M_firstMatch_1 : decode b_M_firstMatch 1 = .ok (.istore_n 2, 1) := by decide +kernel
theorem d_M_firstMatch_2 : decode b_M_firstMatch 2 = .ok (.iload_n 2, 1) := by decide +kernel
theorem d_M_firstMatch_3 : decode b_M_firstMatch 3 = .ok (.aload_n 0, 1) := by decide +kernel
theorem d_M_firstMatch_4 : decode b_M_firstMatch 4 = .ok (.getfield 31, 3) := by decide +kernel
theorem d_M_firstMatch_7 : decode b_M_firstMatch 7 = .ok (.if_icmp .ge 26, 3) := by decide +kernel
theorem d_M_firstMatch_10 : decode b_M_firstMatch 10 = .ok (.iload_n 2, 1) := by decide +kernel
theorem d_M_firstMatch_11 : decode b_M_firstMatch 11 = .ok (.bipush 12, 2) := by decide +kernel
theorem d_M_firstMatch_13 : decode b_M_firstMatch 13 = .ok (.if_icmp .ge 20, 3) := by decide +kernel
theorem d_M_firstMatch_16 : decode b_M_firstMatch 16 = .ok (.aload_n 0, 1) := by decide +kernel
theorem d_M_firstMatch_17 : decode b_M_firstMatch 17 = .ok (.iload_n 2, 1) := by decide +kernel
theorem d_M_firstMatch_18 : decode b_M_firstMatch 18 = .ok (.iload_n 1, 1) := by decide +kernel
theorem d_M_firstMatch_19 : decode b_M_firstMatch 19 = .ok (.invokevirtual 66, 3) := by decide +kernel
theorem d_M_firstMatch_22 : decode b_M_firstMatch 22 = .ok (.ifCond .eq 5, 3) := by decide +kernel
theorem d_M_firstMatch_25 : decode b_M_firstMatch 25 = .ok (.iload_n 2, 1) := by decide +kernel
theorem d_M_firstMatch_26 : decode b_M_firstMatch 26 = .ok (.ireturn, 1) := by decide +kernel
theorem d_M_firstMatch_27 : decode b_M_firstMatch 27 = .ok (.iinc 2 1, 3) := by decide +kernel
theorem d_M_firstMatch_30 : decode b_M_firstMatch 30 = .ok (.goto (-28), 3) := by decide +kernel
theorem d_M_firstMatch_33 : decode b_M_firstMatch 33 = .ok (.bipush (-2), 2) := by decide +kernel
theorem d_M_firstMatch_35 : decode b_M_firstMatch 35 = .ok (.ireturn, 1) := by decide +kernel
theorem d_M_verdict_0 : decode b_M_verdict 0 = .ok (.aload_n 0, 1) := by decide +kernel
theorem d_M_verdict_1 : decode b_M_verdict 1 = .ok (.iload_n 1, 1) := by decide +kernel
theorem d_M_verdict_2 : decode b_M_verdict 2 = .ok (.invokevirtual 69, 3) := by decide +kernel
theorem d_M_verdict_5 : decode b_M_verdict 5 = .ok (.istore_n 2, 1) := by decide +kernel
theorem d_M_verdict_6 : decode b_M_verdict 6 = .ok (.iload_n 2, 1) := by decide +kernel
theorem d_M_verdict_7 : decode b_M_verdict 7 = .ok (.ifCond .ge 10, 3) := by decide +kernel
theorem d_M_verdict_10 : decode b_M_verdict 10 = .ok (.aload_n 0, 1) := by decide +kernel
theorem d_M_verdict_11 : decode b_M_verdict 11 = .ok (.getfield 56, 3) := by decide +kernel
theorem d_M_verdict_14 : decode b_M_verdict 14 = .ok (.goto 9, 3) := by decide +kernel
theorem d_M_verdict_17 : decode b_M_verdict 17 = .ok (.aload_n 0, 1) := by decide +kernel
theorem d_M_verdict_18 : decode b_M_verdict 18 = .ok (.getfield 16, 3) := by decide +kernel
theorem d_M_verdict_21 : decode b_M_verdict 21 = .ok (.iload_n 2, 1) := by decide +kernel
theorem d_M_verdict_22 : decode b_M_verdict 22 = .ok (.iaload, 1) := by decide +kernel
theorem d_M_verdict_23 : decode b_M_verdict 23 = .ok (.ireturn, 1) := by decide +kernel
theorem d_M_decide_0 : decode b_M_decide 0 = .ok (.aload_n 0, 1) := by decide +kernel
theorem d_M_decide_1 : decode b_M_decide 1 = .ok (.iload_n 1, 1) := by decide +kernel
theorem d_M_decide_2 : decode b_M_decide 2 = .ok (.invokevirtual 35, 3) := by decide +kernel
theorem d_M_decide_5 : decode b_M_decide 5 = .ok (.ifCond .eq 7, 3) := by decide +kernel
theorem d_M_decide_8 : decode b_M_decide 8 = .ok (.iconst (-1), 1) := by decide +kernel
theorem d_M_decide_9 : decode b_M_decide 9 = .ok (.goto 8, 3) := by decide +kernel
theorem d_M_decide_12 : decode b_M_decide 12 = .ok (.aload_n 0, 1) := by decide +kernel
theorem d_M_decide_13 : decode b_M_decide 13 = .ok (.iload_n 1, 1) := by decide +kernel
theorem d_M_decide_14 : decode b_M_decide 14 = .ok (.invokevirtual 73, 3) := by decide +kernel
theorem d_M_decide_17 : decode b_M_decide 17 = .ok (.ireturn, 1) := by decide +kernel
theorem d_M_matched_0 : decode b_M_matched 0 = .ok (.aload_n 0, 1) := by decide +kernel
theorem d_M_matched_1 : decode b_M_matched 1 = .ok (.iload_n 1, 1) := by decide +kernel
theorem d_M_matched_2 : decode b_M_matched 2 = .ok (.invokevirtual 35, 3) := by decide +kernel
theorem d_M_matched_5 : decode b_M_matched 5 = .ok (.ifCond .eq 7, 3) := by decide +kernel
theorem d_M_matched_8 : decode b_M_matched 8 = .ok (.iconst (-1), 1) := by decide +kernel
theorem d_M_matched_9 : decode b_M_matched 9 = .ok (.goto 8, 3) := by decide +kernel
theorem d_M_matched_12 : decode b_M_matched 12 = .ok (.aload_n 0, 1) := by decide +kernel
theorem d_M_matched_13 : decode b_M_matched 13 = .ok (.iload_n 1, 1) := by decide +kernel
theorem d_M_matched_14 : decode b_M_matched 14 = .ok (.invokevirtual 69, 3) := by decide +kernel
theorem d_M_matched_17 : decode b_M_matched 17 = .ok (.ireturn, 1) := by decide +kernel
theorem d_M_countWith_0 : decode b_M_countWith 0 = .ok (.aload_n 0, 1) := by decide +kernel
theorem d_M_countWith_1 : decode b_M_countWith 1 = .ok (.iload_n 2, 1) := by decide +kernel
theorem d_M_countWith_2 : decode b_M_countWith 2 = .ok (.invokevirtual 35, 3) := by decide +kernel
theorem d_M_countWith_5 : decode b_M_countWith 5 = .ok (.ifCond .ne 11, 3) := by decide +kernel
theorem d_M_countWith_8 : decode b_M_countWith 8 = .ok (.aload_n 0, 1) := by decide +kernel
theorem d_M_countWith_9 : decode b_M_countWith 9 = .ok (.iload_n 3, 1) := by decide +kernel
theorem d_M_countWith_10 : decode b_M_countWith 10 = .ok (.invokevirtual 35, 3) := by decide +kernel
theorem d_M_countWith_13 : decode b_M_countWith 13 = .ok (.ifCond .eq 5, 3) := by decide +kernel
theorem d_M_countWith_16 : decode b_M_countWith 16 = .ok (.iconst (-1), 1) := by decide +kernel
theorem d_M_countWith_17 : decode b_M_countWith 17 = .ok (.ireturn, 1) := by decide +kernel
theorem d_M_countWith_18 : decode b_M_countWith 18 = .ok (.iload_n 2, 1) := by decide +kernel
theorem d_M_countWith_19 : decode b_M_countWith 19 = .ok (.iload_n 3, 1) := by decide +kernel
theorem d_M_countWith_20 : decode b_M_countWith 20 = .ok (.if_icmp .le 6, 3) := by decide +kernel
theorem d_M_countWith_23 : decode b_M_countWith 23 = .ok (.bipush (-2), 2) := by decide +kernel
theorem d_M_countWith_25 : decode b_M_countWith 25 = .ok (.ireturn, 1) := by decide +kernel
theorem d_M_countWith_26 : decode b_M_countWith 26 = .ok (.aload_n 0, 1) := by decide +kernel
theorem d_M_countWith_27 : decode b_M_countWith 27 = .ok (.iload_n 1, 1) := by decide +kernel
theorem d_M_countWith_28 : decode b_M_countWith 28 = .ok (.invokevirtual 43, 3) := by decide +kernel
theorem d_M_countWith_31 : decode b_M_countWith 31 = .ok (.ifCond .eq 6, 3) := by decide +kernel
theorem d_M_countWith_34 : decode b_M_countWith 34 = .ok (.bipush (-3), 2) := by decide +kernel
theorem d_M_countWith_36 : decode b_M_countWith 36 = .ok (.ireturn, 1) := by decide +kernel
theorem d_M_countWith_37 : decode b_M_countWith 37 = .ok (.iconst 0, 1) := by decide +kernel
theorem d_M_countWith_38 : decode b_M_countWith 38 = .ok (.istore 4, 2) := by decide +kernel
theorem d_M_countWith_40 : decode b_M_countWith 40 = .ok (.iload_n 2, 1) := by decide +kernel
theorem d_M_countWith_41 : decode b_M_countWith 41 = .ok (.istore 5, 2) := by decide +kernel
theorem d_M_countWith_43 : decode b_M_countWith 43 = .ok (.iload 5, 2) := by decide +kernel
theorem d_M_countWith_45 : decode b_M_countWith 45 = .ok (.iload_n 3, 1) := by decide +kernel
theorem d_M_countWith_46 : decode b_M_countWith 46 = .ok (.if_icmp .gt 22, 3) := by decide +kernel
theorem d_M_countWith_49 : decode b_M_countWith 49 = .ok (.aload_n 0, 1) := by decide +kernel
theorem d_M_countWith_50 : decode b_M_countWith 50 = .ok (.iload 5, 2) := by decide +kernel
theorem d_M_countWith_52 : decode b_M_countWith 52 = .ok (.invokevirtual 73, 3) := by decide +kernel
theorem d_M_countWith_55 : decode b_M_countWith 55 = .ok (.iload_n 1, 1) := by decide +kernel
theorem d_M_countWith_56 : decode b_M_countWith 56 = .ok (.if_icmp .ne 6, 3) := by decide +kernel
theorem d_M_countWith_59 : decode b_M_countWith 59 = .ok (.iinc 4 1, 3) := by decide +kernel
theorem d_M_countWith_62 : decode b_M_countWith 62 = .ok (.iinc 5 1, 3) := by decide +kernel
theorem d_M_countWith_65 : decode b_M_countWith 65 = .ok (.goto (-22), 3) := by decide +kernel
theorem d_M_countWith_68 : decode b_M_countWith 68 = .ok (.iload 4, 2) := by decide +kernel
theorem d_M_countWith_70 : decode b_M_countWith 70 = .ok (.ireturn, 1) := by decide +kernel
theorem d_M_nextWith_0 : decode b_M_nextWith 0 = .ok (.aload_n 0, 1) := by decide +kernel
theorem d_M_nextWith_1 : decode b_M_nextWith 1 = .ok (.iload_n 1, 1) := by decide +kernel
theorem d_M_nextWith_2 : decode b_M_nextWith 2 = .ok (.invokevirtual 43, 3) := by decide +kernel
theorem d_M_nextWith_5 : decode b_M_nextWith 5 = .ok (.ifCond .eq 5, 3) := by decide +kernel
theorem d_M_nextWith_8 : decode b_M_nextWith 8 = .ok (.iconst (-1), 1) := by decide +kernel
theorem d_M_nextWith_9 : decode b_M_nextWith 9 = .ok (.ireturn, 1) := by decide +kernel
theorem d_M_nextWith_10 : decode b_M_nextWith 10 = .ok (.aload_n 0, 1) := by decide +kernel
theorem d_M_nextWith_11 : decode b_M_nextWith 11 = .ok (.iload_n 2, 1) := by decide +kernel
theorem d_M_nextWith_12 : decode b_M_nextWith 12 = .ok (.invokevirtual 35, 3) := by decide +kernel
theorem d_M_nextWith_15 : decode b_M_nextWith 15 = .ok (.ifCond .eq 6, 3) := by decide +kernel
theorem d_M_nextWith_18 : decode b_M_nextWith 18 = .ok (.bipush (-2), 2) := by decide +kernel
theorem d_M_nextWith_20 : decode b_M_nextWith 20 = .ok (.ireturn, 1) := by decide +kernel
theorem d_M_nextWith_21 : decode b_M_nextWith 21 = .ok (.iload_n 2, 1) := by decide +kernel
theorem d_M_nextWith_22 : decode b_M_nextWith 22 = .ok (.istore_n 3, 1) := by decide +kernel
theorem d_M_nextWith_23 : decode b_M_nextWith 23 = .ok (.iload_n 3, 1) := by decide +kernel
theorem d_M_nextWith_24 : decode b_M_nextWith 24 = .ok (.bipush 32, 2) := by decide +kernel
theorem d_M_nextWith_26 : decode b_M_nextWith 26 = .ok (.if_icmp .ge 20, 3) := by decide +kernel
theorem d_M_nextWith_29 : decode b_M_nextWith 29 = .ok (.aload_n 0, 1) := by decide +kernel
theorem d_M_nextWith_30 : decode b_M_nextWith 30 = .ok (.iload_n 3, 1) := by decide +kernel
theorem d_M_nextWith_31 : decode b_M_nextWith 31 = .ok (.invokevirtual 73, 3) := by decide +kernel
theorem d_M_nextWith_34 : decode b_M_nextWith 34 = .ok (.iload_n 1, 1) := by decide +kernel
theorem d_M_nextWith_35 : decode b_M_nextWith 35 = .ok (.if_icmp .ne 5, 3) := by decide +kernel
theorem d_M_nextWith_38 : decode b_M_nextWith 38 = .ok (.iload_n 3, 1) := by decide +kernel
theorem d_M_nextWith_39 : decode b_M_nextWith 39 = .ok (.ireturn, 1) := by decide +kernel
theorem d_M_nextWith_40 : decode b_M_nextWith 40 = .ok (.iinc 3 1, 3) := by decide +kernel
theorem d_M_nextWith_43 : decode b_M_nextWith 43 = .ok (.goto (-20), 3) := by decide +kernel
theorem d_M_nextWith_46 : decode b_M_nextWith 46 = .ok (.bipush (-3), 2) := by decide +kernel
theorem d_M_nextWith_48 : decode b_M_nextWith 48 = .ok (.ireturn, 1) := by decide +kernel
theorem d_M_matching_0 : decode b_M_matching 0 = .ok (.aload_n 0, 1) := by decide +kernel
theorem d_M_matching_1 : decode b_M_matching 1 = .ok (.iload_n 1, 1) := by decide +kernel
theorem d_M_matching_2 : decode b_M_matching 2 = .ok (.invokevirtual 35, 3) := by decide +kernel
theorem d_M_matching_5 : decode b_M_matching 5 = .ok (.ifCond .eq 5, 3) := by decide +kernel
theorem d_M_matching_8 : decode b_M_matching 8 = .ok (.iconst (-1), 1) := by decide +kernel
theorem d_M_matching_9 : decode b_M_matching 9 = .ok (.ireturn, 1) := by decide +kernel
theorem d_M_matching_10 : decode b_M_matching 10 = .ok (.iconst 0, 1) := by decide +kernel
theorem d_M_matching_11 : decode b_M_matching 11 = .ok (.istore_n 2, 1) := by decide +kernel
theorem d_M_matching_12 : decode b_M_matching 12 = .ok (.iconst 0, 1) := by decide +kernel
theorem d_M_matching_13 : decode b_M_matching 13 = .ok (.istore_n 3, 1) := by decide +kernel
theorem d_M_matching_14 : decode b_M_matching 14 = .ok (.iload_n 3, 1) := by decide +kernel
theorem d_M_matching_15 : decode b_M_matching 15 = .ok (.aload_n 0, 1) := by decide +kernel
theorem d_M_matching_16 : decode b_M_matching 16 = .ok (.getfield 31, 3) := by decide +kernel
theorem d_M_matching_19 : decode b_M_matching 19 = .ok (.if_icmp .ge 27, 3) := by decide +kernel
theorem d_M_matching_22 : decode b_M_matching 22 = .ok (.iload_n 3, 1) := by decide +kernel
theorem d_M_matching_23 : decode b_M_matching 23 = .ok (.bipush 12, 2) := by decide +kernel
theorem d_M_matching_25 : decode b_M_matching 25 = .ok (.if_icmp .ge 21, 3) := by decide +kernel
theorem d_M_matching_28 : decode b_M_matching 28 = .ok (.aload_n 0, 1) := by decide +kernel
theorem d_M_matching_29 : decode b_M_matching 29 = .ok (.iload_n 3, 1) := by decide +kernel
theorem d_M_matching_30 : decode b_M_matching 30 = .ok (.iload_n 1, 1) := by decide +kernel
theorem d_M_matching_31 : decode b_M_matching 31 = .ok (.invokevirtual 66, 3) := by decide +kernel
theorem d_M_matching_34 : decode b_M_matching 34 = .ok (.ifCond .eq 6, 3) := by decide +kernel
theorem d_M_matching_37 : decode b_M_matching 37 = .ok (.iinc 2 1, 3) := by decide +kernel
theorem d_M_matching_40 : decode b_M_matching 40 = .ok (.iinc 3 1, 3) := by decide +kernel
theorem d_M_matching_43 : decode b_M_matching 43 = .ok (.goto (-29), 3) := by decide +kernel
theorem d_M_matching_46 : decode b_M_matching 46 = .ok (.iload_n 2, 1) := by decide +kernel
theorem d_M_matching_47 : decode b_M_matching 47 = .ok (.ireturn, 1) := by decide +kernel
theorem d_M_shadowed_0 : decode b_M_shadowed 0 = .ok (.iconst 0, 1) := by decide +kernel
theorem d_M_shadowed_1 : decode b_M_shadowed 1 = .ok (.istore_n 3, 1) := by decide +kernel
theorem d_M_shadowed_2 : decode b_M_shadowed 2 = .ok (.iload_n 3, 1) := by decide +kernel
theorem d_M_shadowed_3 : decode b_M_shadowed 3 = .ok (.iload_n 1, 1) := by decide +kernel
theorem d_M_shadowed_4 : decode b_M_shadowed 4 = .ok (.if_icmp .ge 56, 3) := by decide +kernel
theorem d_M_shadowed_7 : decode b_M_shadowed 7 = .ok (.iload_n 3, 1) := by decide +kernel
theorem d_M_shadowed_8 : decode b_M_shadowed 8 = .ok (.bipush 12, 2) := by decide +kernel
theorem d_M_shadowed_10 : decode b_M_shadowed 10 = .ok (.if_icmp .ge 50, 3) := by decide +kernel
theorem d_M_shadowed_13 : decode b_M_shadowed 13 = .ok (.aload_n 0, 1) := by decide +kernel
theorem d_M_shadowed_14 : decode b_M_shadowed 14 = .ok (.iload_n 3, 1) := by decide +kernel
theorem d_M_shadowed_15 : decode b_M_shadowed 15 = .ok (.iload_n 2, 1) := by decide +kernel
theorem d_M_shadowed_16 : decode b_M_shadowed 16 = .ok (.invokevirtual 59, 3) := by decide +kernel
theorem d_M_shadowed_19 : decode b_M_shadowed 19 = .ok (.ifCond .eq 35, 3) := by decide +kernel
theorem d_M_shadowed_22 : decode b_M_shadowed 22 = .ok (.aload_n 0, 1) := by decide +kernel
theorem d_M_shadowed_23 : decode b_M_shadowed 23 = .ok (.getfield 19, 3) := by decide +kernel
theorem d_M_shadowed_26 : decode b_M_shadowed 26 = .ok (.iconst 2, 1) := by decide +kernel
theorem d_M_shadowed_27 : decode b_M_shadowed 27 = .ok (.iload_n 3, 1) := by decide +kernel
theorem d_M_shadowed_28 : decode b_M_shadowed 28 = .ok (.imul, 1) := by decide +kernel
theorem d_M_shadowed_29 : decode b_M_shadowed 29 = .ok (.iaload, 1) := by decide +kernel
theorem d_M_shadowed_30 : decode b_M_shadowed 30 = .ok (.bipush 8, 2) := by decide +kernel
theorem d_M_shadowed_32 : decode b_M_shadowed 32 = .ok (.irem, 1) := by decide +kernel
theorem d_M_shadowed_33 : decode b_M_shadowed 33 = .ok (.ifCond .ne 21, 3) := by decide +kernel
theorem d_M_shadowed_36 : decode b_M_shadowed 36 = .ok (.aload_n 0, 1) := by decide +kernel
theorem d_M_shadowed_37 : decode b_M_shadowed 37 = .ok (.getfield 19, 3) := by decide +kernel
theorem d_M_shadowed_40 : decode b_M_shadowed 40 = .ok (.iconst 2, 1) := by decide +kernel
theorem d_M_shadowed_41 : decode b_M_shadowed 41 = .ok (.iload_n 3, 1) := by decide +kernel
theorem d_M_shadowed_42 : decode b_M_shadowed 42 = .ok (.imul, 1) := by decide +kernel
theorem d_M_shadowed_43 : decode b_M_shadowed 43 = .ok (.iconst 1, 1) := by decide +kernel
theorem d_M_shadowed_44 : decode b_M_shadowed 44 = .ok (.iadd, 1) := by decide +kernel
theorem d_M_shadowed_45 : decode b_M_shadowed 45 = .ok (.iaload, 1) := by decide +kernel
theorem d_M_shadowed_46 : decode b_M_shadowed 46 = .ok (.bipush 8, 2) := by decide +kernel
theorem d_M_shadowed_48 : decode b_M_shadowed 48 = .ok (.irem, 1) := by decide +kernel
theorem d_M_shadowed_49 : decode b_M_shadowed 49 = .ok (.ifCond .ne 5, 3) := by decide +kernel
theorem d_M_shadowed_52 : decode b_M_shadowed 52 = .ok (.iconst 1, 1) := by decide +kernel
theorem d_M_shadowed_53 : decode b_M_shadowed 53 = .ok (.ireturn, 1) := by decide +kernel
theorem d_M_shadowed_54 : decode b_M_shadowed 54 = .ok (.iinc 3 1, 3) := by decide +kernel
theorem d_M_shadowed_57 : decode b_M_shadowed 57 = .ok (.goto (-55), 3) := by decide +kernel
theorem d_M_shadowed_60 : decode b_M_shadowed 60 = .ok (.iconst 0, 1) := by decide +kernel
theorem d_M_shadowed_61 : decode b_M_shadowed 61 = .ok (.ireturn, 1) := by decide +kernel
theorem d_M_hidden_0 : decode b_M_hidden 0 = .ok (.aload_n 0, 1) := by decide +kernel
theorem d_M_hidden_1 : decode b_M_hidden 1 = .ok (.iload_n 1, 1) := by decide +kernel
theorem d_M_hidden_2 : decode b_M_hidden 2 = .ok (.invokevirtual 49, 3) := by decide +kernel
theorem d_M_hidden_5 : decode b_M_hidden 5 = .ok (.ifCond .eq 5, 3) := by decide +kernel
theorem d_M_hidden_8 : decode b_M_hidden 8 = .ok (.iconst (-1), 1) := by decide +kernel
theorem d_M_hidden_9 : decode b_M_hidden 9 = .ok (.ireturn, 1) := by decide +kernel
theorem d_M_hidden_10 : decode b_M_hidden 10 = .ok (.aload_n 0, 1) := by decide +kernel
theorem d_M_hidden_11 : decode b_M_hidden 11 = .ok (.getfield 7, 3) := by decide +kernel
theorem d_M_hidden_14 : decode b_M_hidden 14 = .ok (.iload_n 1, 1) := by decide +kernel
theorem d_M_hidden_15 : decode b_M_hidden 15 = .ok (.iaload, 1) := by decide +kernel
theorem d_M_hidden_16 : decode b_M_hidden 16 = .ok (.istore_n 2, 1) := by decide +kernel
theorem d_M_hidden_17 : decode b_M_hidden 17 = .ok (.iload_n 2, 1) := by decide +kernel
theorem d_M_hidden_18 : decode b_M_hidden 18 = .ok (.aload_n 0, 1) := by decide +kernel
theorem d_M_hidden_19 : decode b_M_hidden 19 = .ok (.getfield 13, 3) := by decide +kernel
theorem d_M_hidden_22 : decode b_M_hidden 22 = .ok (.iload_n 1, 1) := by decide +kernel
theorem d_M_hidden_23 : decode b_M_hidden 23 = .ok (.iaload, 1) := by decide +kernel
theorem d_M_hidden_24 : decode b_M_hidden 24 = .ok (.if_icmp .gt 26, 3) := by decide +kernel
theorem d_M_hidden_27 : decode b_M_hidden 27 = .ok (.iload_n 2, 1) := by decide +kernel
theorem d_M_hidden_28 : decode b_M_hidden 28 = .ok (.bipush 32, 2) := by decide +kernel
theorem d_M_hidden_30 : decode b_M_hidden 30 = .ok (.if_icmp .ge 20, 3) := by decide +kernel
theorem d_M_hidden_33 : decode b_M_hidden 33 = .ok (.aload_n 0, 1) := by decide +kernel
theorem d_M_hidden_34 : decode b_M_hidden 34 = .ok (.iload_n 1, 1) := by decide +kernel
theorem d_M_hidden_35 : decode b_M_hidden 35 = .ok (.iload_n 2, 1) := by decide +kernel
theorem d_M_hidden_36 : decode b_M_hidden 36 = .ok (.invokevirtual 76, 3) := by decide +kernel
theorem d_M_hidden_39 : decode b_M_hidden 39 = .ok (.ifCond .ne 5, 3) := by decide +kernel
theorem d_M_hidden_42 : decode b_M_hidden 42 = .ok (.iconst 0, 1) := by decide +kernel
theorem d_M_hidden_43 : decode b_M_hidden 43 = .ok (.ireturn, 1) := by decide +kernel
theorem d_M_hidden_44 : decode b_M_hidden 44 = .ok (.iinc 2 1, 3) := by decide +kernel
theorem d_M_hidden_47 : decode b_M_hidden 47 = .ok (.goto (-30), 3) := by decide +kernel
theorem d_M_hidden_50 : decode b_M_hidden 50 = .ok (.iconst 1, 1) := by decide +kernel
theorem d_M_hidden_51 : decode b_M_hidden 51 = .ok (.ireturn, 1) := by decide +kernel
theorem d_M_stretches_0 : decode b_M_stretches 0 = .ok (.iconst 1, 1) := by decide +kernel
theorem d_M_stretches_1 : decode b_M_stretches 1 = .ok (.istore_n 1, 1) := by decide +kernel
theorem d_M_stretches_2 : decode b_M_stretches 2 = .ok (.iconst 1, 1) := by decide +kernel
theorem d_M_stretches_3 : decode b_M_stretches 3 = .ok (.istore_n 2, 1) := by decide +kernel
theorem d_M_stretches_4 : decode b_M_stretches 4 = .ok (.iload_n 2, 1) := by decide +kernel
theorem d_M_stretches_5 : decode b_M_stretches 5 = .ok (.bipush 32, 2) := by decide +kernel
theorem d_M_stretches_7 : decode b_M_stretches 7 = .ok (.if_icmp .ge 64, 3) := by decide +kernel
theorem d_M_stretches_10 : decode b_M_stretches 10 = .ok (.iconst 1, 1) := by decide +kernel
theorem d_M_stretches_11 : decode b_M_stretches 11 = .ok (.istore_n 3, 1) := by decide +kernel
theorem d_M_stretches_12 : decode b_M_stretches 12 = .ok (.iconst 0, 1) := by decide +kernel
theorem d_M_stretches_13 : decode b_M_stretches 13 = .ok (.istore 4, 2) := by decide +kernel
theorem d_M_stretches_15 : decode b_M_stretches 15 = .ok (.iload 4, 2) := by decide +kernel
theorem d_M_stretches_17 : decode b_M_stretches 17 = .ok (.aload_n 0, 1) := by decide +kernel
theorem d_M_stretches_18 : decode b_M_stretches 18 = .ok (.getfield 31, 3) := by decide +kernel
theorem d_M_stretches_21 : decode b_M_stretches 21 = .ok (.if_icmp .ge 37, 3) := by decide +kernel
theorem d_M_stretches_24 : decode b_M_stretches 24 = .ok (.iload 4, 2) := by decide +kernel
theorem d_M_stretches_26 : decode b_M_stretches 26 = .ok (.bipush 12, 2) := by decide +kernel
theorem d_M_stretches_28 : decode b_M_stretches 28 = .ok (.if_icmp .ge 30, 3) := by decide +kernel
theorem d_M_stretches_31 : decode b_M_stretches 31 = .ok (.aload_n 0, 1) := by decide +kernel
theorem d_M_stretches_32 : decode b_M_stretches 32 = .ok (.iload 4, 2) := by decide +kernel
theorem d_M_stretches_34 : decode b_M_stretches 34 = .ok (.iload_n 2, 1) := by decide +kernel
theorem d_M_stretches_35 : decode b_M_stretches 35 = .ok (.invokevirtual 59, 3) := by decide +kernel
theorem d_M_stretches_38 : decode b_M_stretches 38 = .ok (.aload_n 0, 1) := by decide +kernel
theorem d_M_stretches_39 : decode b_M_stretches 39 = .ok (.iload 4, 2) := by decide +kernel
theorem d_M_stretches_41 : decode b_M_stretches 41 = .ok (.iload_n 2, 1) := by decide +kernel
theorem d_M_stretches_42 : decode b_M_stretches 42 = .ok (.iconst 1, 1) := by decide +kernel
theorem d_M_stretches_43 : decode b_M_stretches 43 = .ok (.isub, 1) := by decide +kernel
theorem d_M_stretches_44 : decode b_M_stretches 44 = .ok (.invokevirtual 59, 3) := by decide +kernel
theorem d_M_stretches_47 : decode b_M_stretches 47 = .ok (.if_icmp .eq 5, 3) := by decide +kernel
theorem d_M_stretches_50 : decode b_M_stretches 50 = .ok (.iconst 0, 1) := by decide +kernel
theorem d_M_stretches_51 : decode b_M_stretches 51 = .ok (.istore_n 3, 1) := by decide +kernel
theorem d_M_stretches_52 : decode b_M_stretches 52 = .ok (.iinc 4 1, 3) := by decide +kernel
theorem d_M_stretches_55 : decode b_M_stretches 55 = .ok (.goto (-40), 3) := by decide +kernel
theorem d_M_stretches_58 : decode b_M_stretches 58 = .ok (.iload_n 3, 1) := by decide +kernel
theorem d_M_stretches_59 : decode b_M_stretches 59 = .ok (.ifCond .ne 6, 3) := by decide +kernel
theorem d_M_stretches_62 : decode b_M_stretches 62 = .ok (.iinc 1 1, 3) := by decide +kernel
theorem d_M_stretches_65 : decode b_M_stretches 65 = .ok (.iinc 2 1, 3) := by decide +kernel
theorem d_M_stretches_68 : decode b_M_stretches 68 = .ok (.goto (-64), 3) := by decide +kernel
theorem d_M_stretches_71 : decode b_M_stretches 71 = .ok (.iload_n 1, 1) := by decide +kernel
theorem d_M_stretches_72 : decode b_M_stretches 72 = .ok (.ireturn, 1) := by decide +kernel
theorem d_M_open_0 : decode b_M_open 0 = .ok (.iconst 0, 1) := by decide +kernel
theorem d_M_open_1 : decode b_M_open 1 = .ok (.istore_n 1, 1) := by decide +kernel
theorem d_M_open_2 : decode b_M_open 2 = .ok (.iconst 0, 1) := by decide +kernel
theorem d_M_open_3 : decode b_M_open 3 = .ok (.istore_n 2, 1) := by decide +kernel
theorem d_M_open_4 : decode b_M_open 4 = .ok (.iload_n 2, 1) := by decide +kernel
theorem d_M_open_5 : decode b_M_open 5 = .ok (.bipush 32, 2) := by decide +kernel
theorem d_M_open_7 : decode b_M_open 7 = .ok (.if_icmp .ge 55, 3) := by decide +kernel
theorem d_M_open_10 : decode b_M_open 10 = .ok (.iconst 0, 1) := by decide +kernel
theorem d_M_open_11 : decode b_M_open 11 = .ok (.istore_n 3, 1) := by decide +kernel
theorem d_M_open_12 : decode b_M_open 12 = .ok (.iconst 0, 1) := by decide +kernel
theorem d_M_open_13 : decode b_M_open 13 = .ok (.istore 4, 2) := by decide +kernel
theorem d_M_open_15 : decode b_M_open 15 = .ok (.iload 4, 2) := by decide +kernel
theorem d_M_open_17 : decode b_M_open 17 = .ok (.aload_n 0, 1) := by decide +kernel
theorem d_M_open_18 : decode b_M_open 18 = .ok (.getfield 31, 3) := by decide +kernel
theorem d_M_open_21 : decode b_M_open 21 = .ok (.if_icmp .ge 28, 3) := by decide +kernel
theorem d_M_open_24 : decode b_M_open 24 = .ok (.iload 4, 2) := by decide +kernel
theorem d_M_open_26 : decode b_M_open 26 = .ok (.bipush 12, 2) := by decide +kernel
theorem d_M_open_28 : decode b_M_open 28 = .ok (.if_icmp .ge 21, 3) := by decide +kernel
theorem d_M_open_31 : decode b_M_open 31 = .ok (.aload_n 0, 1) := by decide +kernel
theorem d_M_open_32 : decode b_M_open 32 = .ok (.iload 4, 2) := by decide +kernel
theorem d_M_open_34 : decode b_M_open 34 = .ok (.iload_n 2, 1) := by decide +kernel
theorem d_M_open_35 : decode b_M_open 35 = .ok (.invokevirtual 59, 3) := by decide +kernel
theorem d_M_open_38 : decode b_M_open 38 = .ok (.ifCond .eq 5, 3) := by decide +kernel
theorem d_M_open_41 : decode b_M_open 41 = .ok (.iconst 1, 1) := by decide +kernel
theorem d_M_open_42 : decode b_M_open 42 = .ok (.istore_n 3, 1) := by decide +kernel
theorem d_M_open_43 : decode b_M_open 43 = .ok (.iinc 4 1, 3) := by decide +kernel
theorem d_M_open_46 : decode b_M_open 46 = .ok (.goto (-31), 3) := by decide +kernel
theorem d_M_open_49 : decode b_M_open 49 = .ok (.iload_n 3, 1) := by decide +kernel
theorem d_M_open_50 : decode b_M_open 50 = .ok (.ifCond .ne 6, 3) := by decide +kernel
theorem d_M_open_53 : decode b_M_open 53 = .ok (.iinc 1 1, 3) := by decide +kernel
theorem d_M_open_56 : decode b_M_open 56 = .ok (.iinc 2 1, 3) := by decide +kernel
theorem d_M_open_59 : decode b_M_open 59 = .ok (.goto (-55), 3) := by decide +kernel
theorem d_M_open_62 : decode b_M_open 62 = .ok (.iload_n 1, 1) := by decide +kernel
theorem d_M_open_63 : decode b_M_open 63 = .ok (.ireturn, 1) := by decide +kernel
end
section
-- decode rows of the law, by names.py
theorem d_law_law_0 : decode code 0 = .ok (.new 7, 3) := by decide +kernel
theorem d_law_law_3 : decode code 3 = .ok (.dup, 1) := by decide +kernel
theorem d_law_law_4 : decode code 4 = .ok (.invokespecial 9, 3) := by decide +kernel
theorem d_law_law_7 : decode code 7 = .ok (.astore_n 1, 1) := by decide +kernel
theorem d_law_law_8 : decode code 8 = .ok (.new 10, 3) := by decide +kernel
theorem d_law_law_11 : decode code 11 = .ok (.dup, 1) := by decide +kernel
theorem d_law_law_12 : decode code 12 = .ok (.invokespecial 12, 3) := by decide +kernel
theorem d_law_law_15 : decode code 15 = .ok (.astore_n 2, 1) := by decide +kernel
theorem d_law_law_16 : decode code 16 = .ok (.iconst 0, 1) := by decide +kernel
theorem d_law_law_17 : decode code 17 = .ok (.istore_n 3, 1) := by decide +kernel
theorem d_law_law_18 : decode code 18 = .ok (.iload_n 3, 1) := by decide +kernel
theorem d_law_law_19 : decode code 19 = .ok (.aload_n 0, 1) := by decide +kernel
theorem d_law_law_20 : decode code 20 = .ok (.arraylength, 1) := by decide +kernel
theorem d_law_law_21 : decode code 21 = .ok (.iconst 5, 1) := by decide +kernel
theorem d_law_law_22 : decode code 22 = .ok (.isub, 1) := by decide +kernel
theorem d_law_law_23 : decode code 23 = .ok (.if_icmp .gt 570, 3) := by decide +kernel
theorem d_law_law_26 : decode code 26 = .ok (.aload_n 0, 1) := by decide +kernel
theorem d_law_law_27 : decode code 27 = .ok (.iload_n 3, 1) := by decide +kernel
theorem d_law_law_28 : decode code 28 = .ok (.iaload, 1) := by decide +kernel
theorem d_law_law_29 : decode code 29 = .ok (.bipush 31, 2) := by decide +kernel
theorem d_law_law_31 : decode code 31 = .ok (.iand, 1) := by decide +kernel
theorem d_law_law_32 : decode code 32 = .ok (.tableswitch 555 0 16 #[84, 117, 170, 203, 226, 259, 292, 315, 328, 361, 384, 407, 450, 483, 506, 529, 542], 84) := by decide +kernel
theorem d_law_law_116 : decode code 116 = .ok (.aload_n 1, 1) := by decide +kernel
theorem d_law_law_117 : decode code 117 = .ok (.aload_n 0, 1) := by decide +kernel
theorem d_law_law_118 : decode code 118 = .ok (.iload_n 3, 1) := by decide +kernel
theorem d_law_law_119 : decode code 119 = .ok (.iconst 1, 1) := by decide +kernel
theorem d_law_law_120 : decode code 120 = .ok (.iadd, 1) := by decide +kernel
theorem d_law_law_121 : decode code 121 = .ok (.iaload, 1) := by decide +kernel
theorem d_law_law_122 : decode code 122 = .ok (.aload_n 0, 1) := by decide +kernel
theorem d_law_law_123 : decode code 123 = .ok (.iload_n 3, 1) := by decide +kernel
theorem d_law_law_124 : decode code 124 = .ok (.iconst 2, 1) := by decide +kernel
theorem d_law_law_125 : decode code 125 = .ok (.iadd, 1) := by decide +kernel
theorem d_law_law_126 : decode code 126 = .ok (.iaload, 1) := by decide +kernel
theorem d_law_law_127 : decode code 127 = .ok (.invokevirtual 13, 3) := by decide +kernel
theorem d_law_law_130 : decode code 130 = .ok (.aload_n 2, 1) := by decide +kernel
theorem d_law_law_131 : decode code 131 = .ok (.aload_n 0, 1) := by decide +kernel
theorem d_law_law_132 : decode code 132 = .ok (.iload_n 3, 1) := by decide +kernel
theorem d_law_law_133 : decode code 133 = .ok (.iconst 1, 1) := by decide +kernel
theorem d_law_law_134 : decode code 134 = .ok (.iadd, 1) := by decide +kernel
theorem d_law_law_135 : decode code 135 = .ok (.iaload, 1) := by decide +kernel
theorem d_law_law_136 : decode code 136 = .ok (.aload_n 0, 1) := by decide +kernel
theorem d_law_law_137 : decode code 137 = .ok (.iload_n 3, 1) := by decide +kernel
theorem d_law_law_138 : decode code 138 = .ok (.iconst 2, 1) := by decide +kernel
theorem d_law_law_139 : decode code 139 = .ok (.iadd, 1) := by decide +kernel
theorem d_law_law_140 : decode code 140 = .ok (.iaload, 1) := by decide +kernel
theorem d_law_law_141 : decode code 141 = .ok (.invokevirtual 17, 3) := by decide +kernel
theorem d_law_law_144 : decode code 144 = .ok (.if_icmp .eq 443, 3) := by decide +kernel
theorem d_law_law_147 : decode code 147 = .ok (.iconst 0, 1) := by decide +kernel
theorem d_law_law_148 : decode code 148 = .ok (.ireturn, 1) := by decide +kernel
theorem d_law_law_149 : decode code 149 = .ok (.aload_n 1, 1) := by decide +kernel
theorem d_law_law_150 : decode code 150 = .ok (.aload_n 0, 1) := by decide +kernel
theorem d_law_law_151 : decode code 151 = .ok (.iload_n 3, 1) := by decide +kernel
theorem d_law_law_152 : decode code 152 = .ok (.iconst 1, 1) := by decide +kernel
theorem d_law_law_153 : decode code 153 = .ok (.iadd, 1) := by decide +kernel
theorem d_law_law_154 : decode code 154 = .ok (.iaload, 1) := by decide +kernel
theorem d_law_law_155 : decode code 155 = .ok (.aload_n 0, 1) := by decide +kernel
theorem d_law_law_156 : decode code 156 = .ok (.iload_n 3, 1) := by decide +kernel
theorem d_law_law_157 : decode code 157 = .ok (.iconst 2, 1) := by decide +kernel
theorem d_law_law_158 : decode code 158 = .ok (.iadd, 1) := by decide +kernel
theorem d_law_law_159 : decode code 159 = .ok (.iaload, 1) := by decide +kernel
theorem d_law_law_160 : decode code 160 = .ok (.aload_n 0, 1) := by decide +kernel
theorem d_law_law_161 : decode code 161 = .ok (.iload_n 3, 1) := by decide +kernel
theorem d_law_law_162 : decode code 162 = .ok (.iconst 3, 1) := by decide +kernel
theorem d_law_law_163 : decode code 163 = .ok (.iadd, 1) := by decide +kernel
theorem d_law_law_164 : decode code 164 = .ok (.iaload, 1) := by decide +kernel
theorem d_law_law_165 : decode code 165 = .ok (.aload_n 0, 1) := by decide +kernel
theorem d_law_law_166 : decode code 166 = .ok (.iload_n 3, 1) := by decide +kernel
theorem d_law_law_167 : decode code 167 = .ok (.iconst 4, 1) := by decide +kernel
theorem d_law_law_168 : decode code 168 = .ok (.iadd, 1) := by decide +kernel
theorem d_law_law_169 : decode code 169 = .ok (.iaload, 1) := by decide +kernel
theorem d_law_law_170 : decode code 170 = .ok (.invokevirtual 18, 3) := by decide +kernel
theorem d_law_law_173 : decode code 173 = .ok (.aload_n 2, 1) := by decide +kernel
theorem d_law_law_174 : decode code 174 = .ok (.aload_n 0, 1) := by decide +kernel
theorem d_law_law_175 : decode code 175 = .ok (.iload_n 3, 1) := by decide +kernel
theorem d_law_law_176 : decode code 176 = .ok (.iconst 1, 1) := by decide +kernel
theorem d_law_law_177 : decode code 177 = .ok (.iadd, 1) := by decide +kernel
theorem d_law_law_178 : decode code 178 = .ok (.iaload, 1) := by decide +kernel
theorem d_law_law_179 : decode code 179 = .ok (.aload_n 0, 1) := by decide +kernel
theorem d_law_law_180 : decode code 180 = .ok (.iload_n 3, 1) := by decide +kernel
theorem d_law_law_181 : decode code 181 = .ok (.iconst 2, 1) := by decide +kernel
theorem d_law_law_182 : decode code 182 = .ok (.iadd, 1) := by decide +kernel
theorem d_law_law_183 : decode code 183 = .ok (.iaload, 1) := by decide +kernel
theorem d_law_law_184 : decode code 184 = .ok (.aload_n 0, 1) := by decide +kernel
theorem d_law_law_185 : decode code 185 = .ok (.iload_n 3, 1) := by decide +kernel
theorem d_law_law_186 : decode code 186 = .ok (.iconst 3, 1) := by decide +kernel
theorem d_law_law_187 : decode code 187 = .ok (.iadd, 1) := by decide +kernel
theorem d_law_law_188 : decode code 188 = .ok (.iaload, 1) := by decide +kernel
theorem d_law_law_189 : decode code 189 = .ok (.aload_n 0, 1) := by decide +kernel
theorem d_law_law_190 : decode code 190 = .ok (.iload_n 3, 1) := by decide +kernel
theorem d_law_law_191 : decode code 191 = .ok (.iconst 4, 1) := by decide +kernel
theorem d_law_law_192 : decode code 192 = .ok (.iadd, 1) := by decide +kernel
theorem d_law_law_193 : decode code 193 = .ok (.iaload, 1) := by decide +kernel
theorem d_law_law_194 : decode code 194 = .ok (.invokevirtual 22, 3) := by decide +kernel
theorem d_law_law_197 : decode code 197 = .ok (.if_icmp .eq 390, 3) := by decide +kernel
theorem d_law_law_200 : decode code 200 = .ok (.iconst 0, 1) := by decide +kernel
theorem d_law_law_201 : decode code 201 = .ok (.ireturn, 1) := by decide +kernel
theorem d_law_law_202 : decode code 202 = .ok (.aload_n 1, 1) := by decide +kernel
theorem d_law_law_203 : decode code 203 = .ok (.aload_n 0, 1) := by decide +kernel
theorem d_law_law_204 : decode code 204 = .ok (.iload_n 3, 1) := by decide +kernel
theorem d_law_law_205 : decode code 205 = .ok (.iconst 1, 1) := by decide +kernel
theorem d_law_law_206 : decode code 206 = .ok (.iadd, 1) := by decide +kernel
theorem d_law_law_207 : decode code 207 = .ok (.iaload, 1) := by decide +kernel
theorem d_law_law_208 : decode code 208 = .ok (.aload_n 0, 1) := by decide +kernel
theorem d_law_law_209 : decode code 209 = .ok (.iload_n 3, 1) := by decide +kernel
theorem d_law_law_210 : decode code 210 = .ok (.iconst 2, 1) := by decide +kernel
theorem d_law_law_211 : decode code 211 = .ok (.iadd, 1) := by decide +kernel
theorem d_law_law_212 : decode code 212 = .ok (.iaload, 1) := by decide +kernel
theorem d_law_law_213 : decode code 213 = .ok (.invokevirtual 23, 3) := by decide +kernel
theorem d_law_law_216 : decode code 216 = .ok (.aload_n 2, 1) := by decide +kernel
theorem d_law_law_217 : decode code 217 = .ok (.aload_n 0, 1) := by decide +kernel
theorem d_law_law_218 : decode code 218 = .ok (.iload_n 3, 1) := by decide +kernel
theorem d_law_law_219 : decode code 219 = .ok (.iconst 1, 1) := by decide +kernel
theorem d_law_law_220 : decode code 220 = .ok (.iadd, 1) := by decide +kernel
theorem d_law_law_221 : decode code 221 = .ok (.iaload, 1) := by decide +kernel
theorem d_law_law_222 : decode code 222 = .ok (.aload_n 0, 1) := by decide +kernel
theorem d_law_law_223 : decode code 223 = .ok (.iload_n 3, 1) := by decide +kernel
theorem d_law_law_224 : decode code 224 = .ok (.iconst 2, 1) := by decide +kernel
theorem d_law_law_225 : decode code 225 = .ok (.iadd, 1) := by decide +kernel
theorem d_law_law_226 : decode code 226 = .ok (.iaload, 1) := by decide +kernel
theorem d_law_law_227 : decode code 227 = .ok (.invokevirtual 26, 3) := by decide +kernel
theorem d_law_law_230 : decode code 230 = .ok (.if_icmp .eq 357, 3) := by decide +kernel
theorem d_law_law_233 : decode code 233 = .ok (.iconst 0, 1) := by decide +kernel
theorem d_law_law_234 : decode code 234 = .ok (.ireturn, 1) := by decide +kernel
theorem d_law_law_235 : decode code 235 = .ok (.aload_n 1, 1) := by decide +kernel
theorem d_law_law_236 : decode code 236 = .ok (.aload_n 0, 1) := by decide +kernel
theorem d_law_law_237 : decode code 237 = .ok (.iload_n 3, 1) := by decide +kernel
theorem d_law_law_238 : decode code 238 = .ok (.iconst 1, 1) := by decide +kernel
theorem d_law_law_239 : decode code 239 = .ok (.iadd, 1) := by decide +kernel
theorem d_law_law_240 : decode code 240 = .ok (.iaload, 1) := by decide +kernel
theorem d_law_law_241 : decode code 241 = .ok (.invokevirtual 27, 3) := by decide +kernel
theorem d_law_law_244 : decode code 244 = .ok (.aload_n 2, 1) := by decide +kernel
theorem d_law_law_245 : decode code 245 = .ok (.aload_n 0, 1) := by decide +kernel
theorem d_law_law_246 : decode code 246 = .ok (.iload_n 3, 1) := by decide +kernel
theorem d_law_law_247 : decode code 247 = .ok (.iconst 1, 1) := by decide +kernel
theorem d_law_law_248 : decode code 248 = .ok (.iadd, 1) := by decide +kernel
theorem d_law_law_249 : decode code 249 = .ok (.iaload, 1) := by decide +kernel
theorem d_law_law_250 : decode code 250 = .ok (.invokevirtual 31, 3) := by decide +kernel
theorem d_law_law_253 : decode code 253 = .ok (.if_icmp .eq 334, 3) := by decide +kernel
theorem d_law_law_256 : decode code 256 = .ok (.iconst 0, 1) := by decide +kernel
theorem d_law_law_257 : decode code 257 = .ok (.ireturn, 1) := by decide +kernel
theorem d_law_law_258 : decode code 258 = .ok (.aload_n 1, 1) := by decide +kernel
theorem d_law_law_259 : decode code 259 = .ok (.aload_n 0, 1) := by decide +kernel
theorem d_law_law_260 : decode code 260 = .ok (.iload_n 3, 1) := by decide +kernel
theorem d_law_law_261 : decode code 261 = .ok (.iconst 1, 1) := by decide +kernel
theorem d_law_law_262 : decode code 262 = .ok (.iadd, 1) := by decide +kernel
theorem d_law_law_263 : decode code 263 = .ok (.iaload, 1) := by decide +kernel
theorem d_law_law_264 : decode code 264 = .ok (.aload_n 0, 1) := by decide +kernel
theorem d_law_law_265 : decode code 265 = .ok (.iload_n 3, 1) := by decide +kernel
theorem d_law_law_266 : decode code 266 = .ok (.iconst 2, 1) := by decide +kernel
theorem d_law_law_267 : decode code 267 = .ok (.iadd, 1) := by decide +kernel
theorem d_law_law_268 : decode code 268 = .ok (.iaload, 1) := by decide +kernel
theorem d_law_law_269 : decode code 269 = .ok (.invokevirtual 32, 3) := by decide +kernel
theorem d_law_law_272 : decode code 272 = .ok (.aload_n 2, 1) := by decide +kernel
theorem d_law_law_273 : decode code 273 = .ok (.aload_n 0, 1) := by decide +kernel
theorem d_law_law_274 : decode code 274 = .ok (.iload_n 3, 1) := by decide +kernel
theorem d_law_law_275 : decode code 275 = .ok (.iconst 1, 1) := by decide +kernel
theorem d_law_law_276 : decode code 276 = .ok (.iadd, 1) := by decide +kernel
theorem d_law_law_277 : decode code 277 = .ok (.iaload, 1) := by decide +kernel
theorem d_law_law_278 : decode code 278 = .ok (.aload_n 0, 1) := by decide +kernel
theorem d_law_law_279 : decode code 279 = .ok (.iload_n 3, 1) := by decide +kernel
theorem d_law_law_280 : decode code 280 = .ok (.iconst 2, 1) := by decide +kernel
theorem d_law_law_281 : decode code 281 = .ok (.iadd, 1) := by decide +kernel
theorem d_law_law_282 : decode code 282 = .ok (.iaload, 1) := by decide +kernel
theorem d_law_law_283 : decode code 283 = .ok (.invokevirtual 35, 3) := by decide +kernel
theorem d_law_law_286 : decode code 286 = .ok (.if_icmp .eq 301, 3) := by decide +kernel
theorem d_law_law_289 : decode code 289 = .ok (.iconst 0, 1) := by decide +kernel
theorem d_law_law_290 : decode code 290 = .ok (.ireturn, 1) := by decide +kernel
theorem d_law_law_291 : decode code 291 = .ok (.aload_n 1, 1) := by decide +kernel
theorem d_law_law_292 : decode code 292 = .ok (.aload_n 0, 1) := by decide +kernel
theorem d_law_law_293 : decode code 293 = .ok (.iload_n 3, 1) := by decide +kernel
theorem d_law_law_294 : decode code 294 = .ok (.iconst 1, 1) := by decide +kernel
theorem d_law_law_295 : decode code 295 = .ok (.iadd, 1) := by decide +kernel
theorem d_law_law_296 : decode code 296 = .ok (.iaload, 1) := by decide +kernel
theorem d_law_law_297 : decode code 297 = .ok (.aload_n 0, 1) := by decide +kernel
theorem d_law_law_298 : decode code 298 = .ok (.iload_n 3, 1) := by decide +kernel
theorem d_law_law_299 : decode code 299 = .ok (.iconst 2, 1) := by decide +kernel
theorem d_law_law_300 : decode code 300 = .ok (.iadd, 1) := by decide +kernel
theorem d_law_law_301 : decode code 301 = .ok (.iaload, 1) := by decide +kernel
theorem d_law_law_302 : decode code 302 = .ok (.invokevirtual 36, 3) := by decide +kernel
theorem d_law_law_305 : decode code 305 = .ok (.aload_n 2, 1) := by decide +kernel
theorem d_law_law_306 : decode code 306 = .ok (.aload_n 0, 1) := by decide +kernel
theorem d_law_law_307 : decode code 307 = .ok (.iload_n 3, 1) := by decide +kernel
theorem d_law_law_308 : decode code 308 = .ok (.iconst 1, 1) := by decide +kernel
theorem d_law_law_309 : decode code 309 = .ok (.iadd, 1) := by decide +kernel
theorem d_law_law_310 : decode code 310 = .ok (.iaload, 1) := by decide +kernel
theorem d_law_law_311 : decode code 311 = .ok (.aload_n 0, 1) := by decide +kernel
theorem d_law_law_312 : decode code 312 = .ok (.iload_n 3, 1) := by decide +kernel
theorem d_law_law_313 : decode code 313 = .ok (.iconst 2, 1) := by decide +kernel
theorem d_law_law_314 : decode code 314 = .ok (.iadd, 1) := by decide +kernel
theorem d_law_law_315 : decode code 315 = .ok (.iaload, 1) := by decide +kernel
theorem d_law_law_316 : decode code 316 = .ok (.invokevirtual 39, 3) := by decide +kernel
theorem d_law_law_319 : decode code 319 = .ok (.if_icmp .eq 268, 3) := by decide +kernel
theorem d_law_law_322 : decode code 322 = .ok (.iconst 0, 1) := by decide +kernel
theorem d_law_law_323 : decode code 323 = .ok (.ireturn, 1) := by decide +kernel
theorem d_law_law_324 : decode code 324 = .ok (.aload_n 1, 1) := by decide +kernel
theorem d_law_law_325 : decode code 325 = .ok (.aload_n 0, 1) := by decide +kernel
theorem d_law_law_326 : decode code 326 = .ok (.iload_n 3, 1) := by decide +kernel
theorem d_law_law_327 : decode code 327 = .ok (.iconst 1, 1) := by decide +kernel
theorem d_law_law_328 : decode code 328 = .ok (.iadd, 1) := by decide +kernel
theorem d_law_law_329 : decode code 329 = .ok (.iaload, 1) := by decide +kernel
theorem d_law_law_330 : decode code 330 = .ok (.invokevirtual 40, 3) := by decide +kernel
theorem d_law_law_333 : decode code 333 = .ok (.aload_n 2, 1) := by decide +kernel
theorem d_law_law_334 : decode code 334 = .ok (.aload_n 0, 1) := by decide +kernel
theorem d_law_law_335 : decode code 335 = .ok (.iload_n 3, 1) := by decide +kernel
theorem d_law_law_336 : decode code 336 = .ok (.iconst 1, 1) := by decide +kernel
theorem d_law_law_337 : decode code 337 = .ok (.iadd, 1) := by decide +kernel
theorem d_law_law_338 : decode code 338 = .ok (.iaload, 1) := by decide +kernel
theorem d_law_law_339 : decode code 339 = .ok (.invokevirtual 43, 3) := by decide +kernel
theorem d_law_law_342 : decode code 342 = .ok (.if_icmp .eq 245, 3) := by decide +kernel
theorem d_law_law_345 : decode code 345 = .ok (.iconst 0, 1) := by decide +kernel
theorem d_law_law_346 : decode code 346 = .ok (.ireturn, 1) := by decide +kernel
theorem d_law_law_347 : decode code 347 = .ok (.aload_n 1, 1) := by decide +kernel
theorem d_law_law_348 : decode code 348 = .ok (.invokevirtual 44, 3) := by decide +kernel
theorem d_law_law_351 : decode code 351 = .ok (.aload_n 2, 1) := by decide +kernel
theorem d_law_law_352 : decode code 352 = .ok (.invokevirtual 48, 3) := by decide +kernel
theorem d_law_law_355 : decode code 355 = .ok (.if_icmp .eq 232, 3) := by decide +kernel
theorem d_law_law_358 : decode code 358 = .ok (.iconst 0, 1) := by decide +kernel
theorem d_law_law_359 : decode code 359 = .ok (.ireturn, 1) := by decide +kernel
theorem d_law_law_360 : decode code 360 = .ok (.aload_n 1, 1) := by decide +kernel
theorem d_law_law_361 : decode code 361 = .ok (.aload_n 0, 1) := by decide +kernel
theorem d_law_law_362 : decode code 362 = .ok (.iload_n 3, 1) := by decide +kernel
theorem d_law_law_363 : decode code 363 = .ok (.iconst 1, 1) := by decide +kernel
theorem d_law_law_364 : decode code 364 = .ok (.iadd, 1) := by decide +kernel
theorem d_law_law_365 : decode code 365 = .ok (.iaload, 1) := by decide +kernel
theorem d_law_law_366 : decode code 366 = .ok (.aload_n 0, 1) := by decide +kernel
theorem d_law_law_367 : decode code 367 = .ok (.iload_n 3, 1) := by decide +kernel
theorem d_law_law_368 : decode code 368 = .ok (.iconst 2, 1) := by decide +kernel
theorem d_law_law_369 : decode code 369 = .ok (.iadd, 1) := by decide +kernel
theorem d_law_law_370 : decode code 370 = .ok (.iaload, 1) := by decide +kernel
theorem d_law_law_371 : decode code 371 = .ok (.invokevirtual 49, 3) := by decide +kernel
theorem d_law_law_374 : decode code 374 = .ok (.aload_n 2, 1) := by decide +kernel
theorem d_law_law_375 : decode code 375 = .ok (.aload_n 0, 1) := by decide +kernel
theorem d_law_law_376 : decode code 376 = .ok (.iload_n 3, 1) := by decide +kernel
theorem d_law_law_377 : decode code 377 = .ok (.iconst 1, 1) := by decide +kernel
theorem d_law_law_378 : decode code 378 = .ok (.iadd, 1) := by decide +kernel
theorem d_law_law_379 : decode code 379 = .ok (.iaload, 1) := by decide +kernel
theorem d_law_law_380 : decode code 380 = .ok (.aload_n 0, 1) := by decide +kernel
theorem d_law_law_381 : decode code 381 = .ok (.iload_n 3, 1) := by decide +kernel
theorem d_law_law_382 : decode code 382 = .ok (.iconst 2, 1) := by decide +kernel
theorem d_law_law_383 : decode code 383 = .ok (.iadd, 1) := by decide +kernel
theorem d_law_law_384 : decode code 384 = .ok (.iaload, 1) := by decide +kernel
theorem d_law_law_385 : decode code 385 = .ok (.invokevirtual 52, 3) := by decide +kernel
theorem d_law_law_388 : decode code 388 = .ok (.if_icmp .eq 199, 3) := by decide +kernel
theorem d_law_law_391 : decode code 391 = .ok (.iconst 0, 1) := by decide +kernel
theorem d_law_law_392 : decode code 392 = .ok (.ireturn, 1) := by decide +kernel
theorem d_law_law_393 : decode code 393 = .ok (.aload_n 1, 1) := by decide +kernel
theorem d_law_law_394 : decode code 394 = .ok (.aload_n 0, 1) := by decide +kernel
theorem d_law_law_395 : decode code 395 = .ok (.iload_n 3, 1) := by decide +kernel
theorem d_law_law_396 : decode code 396 = .ok (.iconst 1, 1) := by decide +kernel
theorem d_law_law_397 : decode code 397 = .ok (.iadd, 1) := by decide +kernel
theorem d_law_law_398 : decode code 398 = .ok (.iaload, 1) := by decide +kernel
theorem d_law_law_399 : decode code 399 = .ok (.invokevirtual 53, 3) := by decide +kernel
theorem d_law_law_402 : decode code 402 = .ok (.aload_n 2, 1) := by decide +kernel
theorem d_law_law_403 : decode code 403 = .ok (.aload_n 0, 1) := by decide +kernel
theorem d_law_law_404 : decode code 404 = .ok (.iload_n 3, 1) := by decide +kernel
theorem d_law_law_405 : decode code 405 = .ok (.iconst 1, 1) := by decide +kernel
theorem d_law_law_406 : decode code 406 = .ok (.iadd, 1) := by decide +kernel
theorem d_law_law_407 : decode code 407 = .ok (.iaload, 1) := by decide +kernel
theorem d_law_law_408 : decode code 408 = .ok (.invokevirtual 56, 3) := by decide +kernel
theorem d_law_law_411 : decode code 411 = .ok (.if_icmp .eq 176, 3) := by decide +kernel
theorem d_law_law_414 : decode code 414 = .ok (.iconst 0, 1) := by decide +kernel
theorem d_law_law_415 : decode code 415 = .ok (.ireturn, 1) := by decide +kernel
theorem d_law_law_416 : decode code 416 = .ok (.aload_n 1, 1) := by decide +kernel
theorem d_law_law_417 : decode code 417 = .ok (.aload_n 0, 1) := by decide +kernel
theorem d_law_law_418 : decode code 418 = .ok (.iload_n 3, 1) := by decide +kernel
theorem d_law_law_419 : decode code 419 = .ok (.iconst 1, 1) := by decide +kernel
theorem d_law_law_420 : decode code 420 = .ok (.iadd, 1) := by decide +kernel
theorem d_law_law_421 : decode code 421 = .ok (.iaload, 1) := by decide +kernel
theorem d_law_law_422 : decode code 422 = .ok (.invokevirtual 57, 3) := by decide +kernel
theorem d_law_law_425 : decode code 425 = .ok (.aload_n 2, 1) := by decide +kernel
theorem d_law_law_426 : decode code 426 = .ok (.aload_n 0, 1) := by decide +kernel
theorem d_law_law_427 : decode code 427 = .ok (.iload_n 3, 1) := by decide +kernel
theorem d_law_law_428 : decode code 428 = .ok (.iconst 1, 1) := by decide +kernel
theorem d_law_law_429 : decode code 429 = .ok (.iadd, 1) := by decide +kernel
theorem d_law_law_430 : decode code 430 = .ok (.iaload, 1) := by decide +kernel
theorem d_law_law_431 : decode code 431 = .ok (.invokevirtual 60, 3) := by decide +kernel
theorem d_law_law_434 : decode code 434 = .ok (.if_icmp .eq 153, 3) := by decide +kernel
theorem d_law_law_437 : decode code 437 = .ok (.iconst 0, 1) := by decide +kernel
theorem d_law_law_438 : decode code 438 = .ok (.ireturn, 1) := by decide +kernel
theorem d_law_law_439 : decode code 439 = .ok (.aload_n 1, 1) := by decide +kernel
theorem d_law_law_440 : decode code 440 = .ok (.aload_n 0, 1) := by decide +kernel
theorem d_law_law_441 : decode code 441 = .ok (.iload_n 3, 1) := by decide +kernel
theorem d_law_law_442 : decode code 442 = .ok (.iconst 1, 1) := by decide +kernel
theorem d_law_law_443 : decode code 443 = .ok (.iadd, 1) := by decide +kernel
theorem d_law_law_444 : decode code 444 = .ok (.iaload, 1) := by decide +kernel
theorem d_law_law_445 : decode code 445 = .ok (.aload_n 0, 1) := by decide +kernel
theorem d_law_law_446 : decode code 446 = .ok (.iload_n 3, 1) := by decide +kernel
theorem d_law_law_447 : decode code 447 = .ok (.iconst 2, 1) := by decide +kernel
theorem d_law_law_448 : decode code 448 = .ok (.iadd, 1) := by decide +kernel
theorem d_law_law_449 : decode code 449 = .ok (.iaload, 1) := by decide +kernel
theorem d_law_law_450 : decode code 450 = .ok (.aload_n 0, 1) := by decide +kernel
theorem d_law_law_451 : decode code 451 = .ok (.iload_n 3, 1) := by decide +kernel
theorem d_law_law_452 : decode code 452 = .ok (.iconst 3, 1) := by decide +kernel
theorem d_law_law_453 : decode code 453 = .ok (.iadd, 1) := by decide +kernel
theorem d_law_law_454 : decode code 454 = .ok (.iaload, 1) := by decide +kernel
theorem d_law_law_455 : decode code 455 = .ok (.invokevirtual 61, 3) := by decide +kernel
theorem d_law_law_458 : decode code 458 = .ok (.aload_n 2, 1) := by decide +kernel
theorem d_law_law_459 : decode code 459 = .ok (.aload_n 0, 1) := by decide +kernel
theorem d_law_law_460 : decode code 460 = .ok (.iload_n 3, 1) := by decide +kernel
theorem d_law_law_461 : decode code 461 = .ok (.iconst 1, 1) := by decide +kernel
theorem d_law_law_462 : decode code 462 = .ok (.iadd, 1) := by decide +kernel
theorem d_law_law_463 : decode code 463 = .ok (.iaload, 1) := by decide +kernel
theorem d_law_law_464 : decode code 464 = .ok (.aload_n 0, 1) := by decide +kernel
theorem d_law_law_465 : decode code 465 = .ok (.iload_n 3, 1) := by decide +kernel
theorem d_law_law_466 : decode code 466 = .ok (.iconst 2, 1) := by decide +kernel
theorem d_law_law_467 : decode code 467 = .ok (.iadd, 1) := by decide +kernel
theorem d_law_law_468 : decode code 468 = .ok (.iaload, 1) := by decide +kernel
theorem d_law_law_469 : decode code 469 = .ok (.aload_n 0, 1) := by decide +kernel
theorem d_law_law_470 : decode code 470 = .ok (.iload_n 3, 1) := by decide +kernel
theorem d_law_law_471 : decode code 471 = .ok (.iconst 3, 1) := by decide +kernel
theorem d_law_law_472 : decode code 472 = .ok (.iadd, 1) := by decide +kernel
theorem d_law_law_473 : decode code 473 = .ok (.iaload, 1) := by decide +kernel
theorem d_law_law_474 : decode code 474 = .ok (.invokevirtual 65, 3) := by decide +kernel
theorem d_law_law_477 : decode code 477 = .ok (.if_icmp .eq 110, 3) := by decide +kernel
theorem d_law_law_480 : decode code 480 = .ok (.iconst 0, 1) := by decide +kernel
theorem d_law_law_481 : decode code 481 = .ok (.ireturn, 1) := by decide +kernel
theorem d_law_law_482 : decode code 482 = .ok (.aload_n 1, 1) := by decide +kernel
theorem d_law_law_483 : decode code 483 = .ok (.aload_n 0, 1) := by decide +kernel
theorem d_law_law_484 : decode code 484 = .ok (.iload_n 3, 1) := by decide +kernel
theorem d_law_law_485 : decode code 485 = .ok (.iconst 1, 1) := by decide +kernel
theorem d_law_law_486 : decode code 486 = .ok (.iadd, 1) := by decide +kernel
theorem d_law_law_487 : decode code 487 = .ok (.iaload, 1) := by decide +kernel
theorem d_law_law_488 : decode code 488 = .ok (.aload_n 0, 1) := by decide +kernel
theorem d_law_law_489 : decode code 489 = .ok (.iload_n 3, 1) := by decide +kernel
theorem d_law_law_490 : decode code 490 = .ok (.iconst 2, 1) := by decide +kernel
theorem d_law_law_491 : decode code 491 = .ok (.iadd, 1) := by decide +kernel
theorem d_law_law_492 : decode code 492 = .ok (.iaload, 1) := by decide +kernel
theorem d_law_law_493 : decode code 493 = .ok (.invokevirtual 66, 3) := by decide +kernel
theorem d_law_law_496 : decode code 496 = .ok (.aload_n 2, 1) := by decide +kernel
theorem d_law_law_497 : decode code 497 = .ok (.aload_n 0, 1) := by decide +kernel
theorem d_law_law_498 : decode code 498 = .ok (.iload_n 3, 1) := by decide +kernel
theorem d_law_law_499 : decode code 499 = .ok (.iconst 1, 1) := by decide +kernel
theorem d_law_law_500 : decode code 500 = .ok (.iadd, 1) := by decide +kernel
theorem d_law_law_501 : decode code 501 = .ok (.iaload, 1) := by decide +kernel
theorem d_law_law_502 : decode code 502 = .ok (.aload_n 0, 1) := by decide +kernel
theorem d_law_law_503 : decode code 503 = .ok (.iload_n 3, 1) := by decide +kernel
theorem d_law_law_504 : decode code 504 = .ok (.iconst 2, 1) := by decide +kernel
theorem d_law_law_505 : decode code 505 = .ok (.iadd, 1) := by decide +kernel
theorem d_law_law_506 : decode code 506 = .ok (.iaload, 1) := by decide +kernel
theorem d_law_law_507 : decode code 507 = .ok (.invokevirtual 69, 3) := by decide +kernel
theorem d_law_law_510 : decode code 510 = .ok (.if_icmp .eq 77, 3) := by decide +kernel
theorem d_law_law_513 : decode code 513 = .ok (.iconst 0, 1) := by decide +kernel
theorem d_law_law_514 : decode code 514 = .ok (.ireturn, 1) := by decide +kernel
theorem d_law_law_515 : decode code 515 = .ok (.aload_n 1, 1) := by decide +kernel
theorem d_law_law_516 : decode code 516 = .ok (.aload_n 0, 1) := by decide +kernel
theorem d_law_law_517 : decode code 517 = .ok (.iload_n 3, 1) := by decide +kernel
theorem d_law_law_518 : decode code 518 = .ok (.iconst 1, 1) := by decide +kernel
theorem d_law_law_519 : decode code 519 = .ok (.iadd, 1) := by decide +kernel
theorem d_law_law_520 : decode code 520 = .ok (.iaload, 1) := by decide +kernel
theorem d_law_law_521 : decode code 521 = .ok (.invokevirtual 70, 3) := by decide +kernel
theorem d_law_law_524 : decode code 524 = .ok (.aload_n 2, 1) := by decide +kernel
theorem d_law_law_525 : decode code 525 = .ok (.aload_n 0, 1) := by decide +kernel
theorem d_law_law_526 : decode code 526 = .ok (.iload_n 3, 1) := by decide +kernel
theorem d_law_law_527 : decode code 527 = .ok (.iconst 1, 1) := by decide +kernel
theorem d_law_law_528 : decode code 528 = .ok (.iadd, 1) := by decide +kernel
theorem d_law_law_529 : decode code 529 = .ok (.iaload, 1) := by decide +kernel
theorem d_law_law_530 : decode code 530 = .ok (.invokevirtual 73, 3) := by decide +kernel
theorem d_law_law_533 : decode code 533 = .ok (.if_icmp .eq 54, 3) := by decide +kernel
theorem d_law_law_536 : decode code 536 = .ok (.iconst 0, 1) := by decide +kernel
theorem d_law_law_537 : decode code 537 = .ok (.ireturn, 1) := by decide +kernel
theorem d_law_law_538 : decode code 538 = .ok (.aload_n 1, 1) := by decide +kernel
theorem d_law_law_539 : decode code 539 = .ok (.aload_n 0, 1) := by decide +kernel
theorem d_law_law_540 : decode code 540 = .ok (.iload_n 3, 1) := by decide +kernel
theorem d_law_law_541 : decode code 541 = .ok (.iconst 1, 1) := by decide +kernel
theorem d_law_law_542 : decode code 542 = .ok (.iadd, 1) := by decide +kernel
theorem d_law_law_543 : decode code 543 = .ok (.iaload, 1) := by decide +kernel
theorem d_law_law_544 : decode code 544 = .ok (.invokevirtual 74, 3) := by decide +kernel
theorem d_law_law_547 : decode code 547 = .ok (.aload_n 2, 1) := by decide +kernel
theorem d_law_law_548 : decode code 548 = .ok (.aload_n 0, 1) := by decide +kernel
theorem d_law_law_549 : decode code 549 = .ok (.iload_n 3, 1) := by decide +kernel
theorem d_law_law_550 : decode code 550 = .ok (.iconst 1, 1) := by decide +kernel
theorem d_law_law_551 : decode code 551 = .ok (.iadd, 1) := by decide +kernel
theorem d_law_law_552 : decode code 552 = .ok (.iaload, 1) := by decide +kernel
theorem d_law_law_553 : decode code 553 = .ok (.invokevirtual 77, 3) := by decide +kernel
theorem d_law_law_556 : decode code 556 = .ok (.if_icmp .eq 31, 3) := by decide +kernel
theorem d_law_law_559 : decode code 559 = .ok (.iconst 0, 1) := by decide +kernel
theorem d_law_law_560 : decode code 560 = .ok (.ireturn, 1) := by decide +kernel
theorem d_law_law_561 : decode code 561 = .ok (.aload_n 1, 1) := by decide +kernel
theorem d_law_law_562 : decode code 562 = .ok (.invokevirtual 78, 3) := by decide +kernel
theorem d_law_law_565 : decode code 565 = .ok (.aload_n 2, 1) := by decide +kernel
theorem d_law_law_566 : decode code 566 = .ok (.invokevirtual 81, 3) := by decide +kernel
theorem d_law_law_569 : decode code 569 = .ok (.if_icmp .eq 18, 3) := by decide +kernel
theorem d_law_law_572 : decode code 572 = .ok (.iconst 0, 1) := by decide +kernel
theorem d_law_law_573 : decode code 573 = .ok (.ireturn, 1) := by decide +kernel
theorem d_law_law_574 : decode code 574 = .ok (.aload_n 1, 1) := by decide +kernel
theorem d_law_law_575 : decode code 575 = .ok (.invokevirtual 82, 3) := by decide +kernel
theorem d_law_law_578 : decode code 578 = .ok (.aload_n 2, 1) := by decide +kernel
theorem d_law_law_579 : decode code 579 = .ok (.invokevirtual 85, 3) := by decide +kernel
theorem d_law_law_582 : decode code 582 = .ok (.if_icmp .eq 5, 3) := by decide +kernel
theorem d_law_law_585 : decode code 585 = .ok (.iconst 0, 1) := by decide +kernel
theorem d_law_law_586 : decode code 586 = .ok (.ireturn, 1) := by decide +kernel
theorem d_law_law_587 : decode code 587 = .ok (.iinc 3 5, 3) := by decide +kernel
theorem d_law_law_590 : decode code 590 = .ok (.goto (-572), 3) := by decide +kernel
theorem d_law_law_593 : decode code 593 = .ok (.iconst 1, 1) := by decide +kernel
theorem d_law_law_594 : decode code 594 = .ok (.ireturn, 1) := by decide +kernel
end
section
-- the judgement J of a method of one class over a world of one object (ints and arrays of ints), and its rows
abbrev gS : Type := (Nat → Int32) × (Nat → Nat → Int32)
/-- the object's address, its arrays' addresses by field, the classes of int[] and boolean[], classes and slots -/
abbrev gG : Type := Nat × (Nat → Nat) × ClassId × ClassId × va_G
abbrev gJT : Type := Nat → List (Nat × Value) → List Value → (Nat → Int32) → (Nat → Nat → Int32) → Prop
def cR : Bool → String
  | false => R_X
  | true => R_M
def cF : Bool → u_T
  | false => F_X
  | true => F_M
def cN : Bool → Nat
  | false => 31
  | true => 9
def cI : Bool → Nat
  | false => 0
  | true => 1
def cTy : Bool → Nat → FieldType
  | false => t_X
  | true => t_M
def cTb : Bool → List (Option Nat)
  | false => tb_X
  | true => tb_M
def cZb : Bool → Nat
  | false => 8
  | true => 99
theorem cl_at (κ : Bool) : classes[cI κ]? = some (cR κ, cF κ, cN κ) := by cases κ <;> rfl
theorem cTb_len (κ : Bool) : (cTb κ).length = cN κ := by cases κ <;> rfl
theorem cTb_small (κ : Bool) {k n : Nat} (h : (cTb κ)[k]? = some (some n)) : n ≤ 400 := by
  have h1 := List.mem_of_getElem? h
  have h2 : ∀ o ∈ cTb κ, ∀ n ∈ o, n ≤ 400 := by cases κ <;> decide +kernel
  exact h2 _ h1 n rfl
theorem cTb_lt {κ : Bool} {k : Nat} {o : Option Nat} (h : (cTb κ)[k]? = some o) : k < cN κ := by
  rw [← cTb_len κ]
  exact (List.getElem?_eq_some_iff.mp h).1
theorem cTy_ok (κ : Bool) : ∀ k, k < cN κ → parseFieldDescriptor (cF κ k).2.2.1 = some (cTy κ k) := by
  cases κ
  · exact t_X_ok
  · exact t_M_ok
theorem cNm_ok (κ : Bool) : ∀ a, a < cN κ → ∀ b, b < cN κ → a ≠ b → (cF κ a).2.1 ≠ (cF κ b).2.1 := by
  cases κ
  · exact n_X
  · exact n_M
theorem cIn (κ : Bool) : ∀ w ∈ u_ws (cR κ) (cF κ) (cN κ), w ∈ tW := by
  cases κ
  · exact i_X
  · exact i_M
theorem cInit (κ : Bool) : Cond.initialized (cR κ) ∈ tW := by
  cases κ
  · exact iz_X
  · exact iz_M
theorem cF_own (κ : Bool) (k : Nat) : (cF κ k).1 = cR κ := by
  cases κ
  · show (F_X k).1 = R_X
    unfold F_X
    split <;> rfl
  · show (F_M k).1 = R_M
    unfold F_M
    split <;> rfl
theorem cPlain (κ : Bool) : plainName (cR κ) = true := by cases κ <;> decide
def gTys (G : gG) : List (ClassId × FieldType) := [(G.2.2.1, .int), (G.2.2.2.1, .boolean)]
def gC (κ : Bool) (G : gG) (k : Nat) : ClassId := if k = cZb κ then G.2.2.2.1 else G.2.2.1
def gF (ad : Nat → Nat) (iv : Nat → Int32) : Nat → List (Option Nat) → List Value
  | _, [] => []
  | k, some _ :: t => .ref (ad k) :: gF ad iv (k + 1) t
  | k, none :: t => .int (iv k) :: gF ad iv (k + 1) t
def gA (ad : Nat → Nat) (cT : Nat → ClassId) (av : Nat → Nat → Int32) : Nat → List (Option Nat) → va_W
  | _, [] => []
  | k, some n :: t => (ad k, .inl (cT k, n, .inl (av k))) :: gA ad cT av (k + 1) t
  | k, none :: t => gA ad cT av (k + 1) t
def gW (κ : Bool) (G : gG) (iv : Nat → Int32) (av : Nat → Nat → Int32) : va_W := (G.1, .inr (cI κ, gF G.2.1 iv 0 (cTb κ))) :: gA G.2.1 (gC κ G) av 0 (cTb κ)
def gK (G : gG) (U : State) : Prop := va_K G.2.2.2.2 classes (gTys G) U
/-- one element of one array -/
def up2 (av : Nat → Nat → Int32) (k j : Nat) (x : Int32) : Nat → Nat → Int32 := va_up av k (upd (av k) j x)
theorem up2_self (av : Nat → Nat → Int32) (k j : Nat) (x : Int32) : up2 av k j x k j = x := by simp [up2, va_up, upd]
theorem up2_k {av : Nat → Nat → Int32} {k j a : Nat} {x : Int32} (h : a ≠ k) : up2 av k j x a = av a := by simp [up2, va_up, h]
theorem up2_j {av : Nat → Nat → Int32} {k j b : Nat} {x : Int32} (h : b ≠ j) : up2 av k j x k b = av k b := by simp [up2, va_up, upd, h]
theorem up2_at (av : Nat → Nat → Int32) (k j : Nat) (x : Int32) (a b : Nat) : up2 av k j x a b = if a = k ∧ b = j then x else av a b := by
  by_cases h : a = k
  · subst h
    by_cases h2 : b = j
    · subst h2; simp [up2, va_up, upd]
    · simp [up2, va_up, upd, h2]
  · simp [up2, va_up, h]
theorem gF_len (ad : Nat → Nat) (iv : Nat → Int32) : ∀ (tb : List (Option Nat)) (k : Nat), (gF ad iv k tb).length = tb.length
  | [], _ => rfl
  | some _ :: t, k => by simp [gF, gF_len ad iv t (k + 1)]
  | none :: t, k => by simp [gF, gF_len ad iv t (k + 1)]
theorem gF_i (ad : Nat → Nat) (iv : Nat → Int32) : ∀ (tb : List (Option Nat)) (k j : Nat), tb[j]? = some none → (gF ad iv k tb)[j]? = some (.int (iv (k + j)))
  | [], k, j, h => by simp at h
  | some _ :: t, k, 0, h => by simp at h
  | none :: t, k, 0, h => rfl
  | some _ :: t, k, j + 1, h => by
    have := gF_i ad iv t (k + 1) j (by simpa using h)
    rw [show k + (j + 1) = k + 1 + j by omega]
    simpa [gF] using this
  | none :: t, k, j + 1, h => by
    have := gF_i ad iv t (k + 1) j (by simpa using h)
    rw [show k + (j + 1) = k + 1 + j by omega]
    simpa [gF] using this
theorem gF_a (ad : Nat → Nat) (iv : Nat → Int32) {n : Nat} : ∀ (tb : List (Option Nat)) (k j : Nat), tb[j]? = some (some n) → (gF ad iv k tb)[j]? = some (.ref (ad (k + j)))
  | [], k, j, h => by simp at h
  | none :: t, k, 0, h => by simp at h
  | some _ :: t, k, 0, h => rfl
  | some _ :: t, k, j + 1, h => by
    have := gF_a ad iv t (k + 1) j (by simpa using h)
    rw [show k + (j + 1) = k + 1 + j by omega]
    simpa [gF] using this
  | none :: t, k, j + 1, h => by
    have := gF_a ad iv t (k + 1) j (by simpa using h)
    rw [show k + (j + 1) = k + 1 + j by omega]
    simpa [gF] using this
theorem gF_cg (ad : Nat → Nat) {iv iv' : Nat → Int32} : ∀ (tb : List (Option Nat)) (k : Nat), (∀ a, k ≤ a → iv' a = iv a) → gF ad iv' k tb = gF ad iv k tb
  | [], _, _ => rfl
  | some _ :: t, k, h => by
    show _ :: _ = _ :: _
    rw [gF_cg ad t (k + 1) (fun a ha => h a (by omega))]
  | none :: t, k, h => by
    show _ :: _ = _ :: _
    rw [gF_cg ad t (k + 1) (fun a ha => h a (by omega)), h k (Nat.le_refl k)]
theorem gF_set (ad : Nat → Nat) (iv : Nat → Int32) (v : Int32) : ∀ (tb : List (Option Nat)) (k j : Nat), tb[j]? = some none → (gF ad iv k tb).set j (.int v) = gF ad (upd iv (k + j) v) k tb
  | [], k, j, h => by simp at h
  | some _ :: t, k, 0, h => by simp at h
  | none :: t, k, 0, h => by
    show Value.int v :: gF ad iv (k + 1) t = Value.int (upd iv (k + 0) v k) :: gF ad (upd iv (k + 0) v) (k + 1) t
    have e1 : gF ad (upd iv (k + 0) v) (k + 1) t = gF ad iv (k + 1) t := gF_cg ad t (k + 1) (fun a ha => pk_un (by omega))
    have e2 : upd iv (k + 0) v k = v := pk_us
    rw [e1, e2]
  | some _ :: t, k, j + 1, h => by
    have := gF_set ad iv v t (k + 1) j (by simpa using h)
    rw [show k + (j + 1) = k + 1 + j by omega]
    show Value.ref (ad k) :: (gF ad iv (k + 1) t).set j (.int v) = Value.ref (ad k) :: _
    rw [this]
  | none :: t, k, j + 1, h => by
    have := gF_set ad iv v t (k + 1) j (by simpa using h)
    rw [show k + (j + 1) = k + 1 + j by omega]
    show Value.int (iv k) :: (gF ad iv (k + 1) t).set j (.int v) = Value.int (upd iv (k + 1 + j) v k) :: _
    rw [this]
    have e : upd iv (k + 1 + j) v k = iv k := pk_un (by omega)
    rw [e]
theorem gA_cg (ad : Nat → Nat) (cT : Nat → ClassId) {av av' : Nat → Nat → Int32} : ∀ (tb : List (Option Nat)) (k : Nat), (∀ a, k ≤ a → av' a = av a) → gA ad cT av' k tb = gA ad cT av k tb
  | [], _, _ => rfl
  | some _ :: t, k, h => by
    show _ :: _ = _ :: _
    rw [gA_cg ad cT t (k + 1) (fun a ha => h a (by omega)), h k (Nat.le_refl k)]
  | none :: t, k, h => gA_cg ad cT t (k + 1) (fun a ha => h a (by omega))
theorem gA_get (ad : Nat → Nat) (cT : Nat → ClassId) (av : Nat → Nat → Int32) {n : Nat} : ∀ (tb : List (Option Nat)) (k j : Nat), tb[j]? = some (some n) →
    ∃ q, (gA ad cT av k tb)[q]? = some (ad (k + j), .inl (cT (k + j), n, .inl (av (k + j)))) ∧ ∀ g : Nat → Int32, (gA ad cT av k tb).set q (ad (k + j), .inl (cT (k + j), n, .inl g)) = gA ad cT (va_up av (k + j) g) k tb
  | [], k, j, h => by simp at h
  | none :: t, k, 0, h => by simp at h
  | some m :: t, k, 0, h => by
    have hm : m = n := by simpa using h
    subst hm
    refine ⟨0, rfl, fun g => ?_⟩
    show (ad k, .inl (cT k, m, .inl g)) :: gA ad cT av (k + 1) t = (ad k, .inl (cT k, m, .inl (va_up av (k + 0) g k))) :: gA ad cT (va_up av (k + 0) g) (k + 1) t
    rw [gA_cg (av := av) ad cT t (k + 1) (fun a ha => va_up_ne av g (by omega))]
    have e : va_up av (k + 0) g k = g := va_up_self av k g
    rw [e]
  | some m :: t, k, j + 1, h => by
    obtain ⟨q, h1, h2⟩ := gA_get ad cT av t (k + 1) j (by simpa using h)
    rw [show k + (j + 1) = k + 1 + j by omega]
    refine ⟨q + 1, by simpa [gA] using h1, fun g => ?_⟩
    show (ad k, .inl (cT k, m, .inl (av k))) :: (gA ad cT av (k + 1) t).set q _ = (ad k, .inl (cT k, m, .inl (va_up av (k + 1 + j) g k))) :: gA ad cT (va_up av (k + 1 + j) g) (k + 1) t
    rw [h2 g, va_up_ne av g (show k ≠ k + 1 + j by omega)]
  | none :: t, k, j + 1, h => by
    obtain ⟨q, h1, h2⟩ := gA_get ad cT av t (k + 1) j (by simpa using h)
    rw [show k + (j + 1) = k + 1 + j by omega]
    exact ⟨q, h1, h2⟩
theorem gW_ar (κ : Bool) (G : gG) (iv : Nat → Int32) (av : Nat → Nat → Int32) {k n : Nat} (h : (cTb κ)[k]? = some (some n)) :
    ∃ q, (gW κ G iv av)[q]? = some (G.2.1 k, .inl (gC κ G k, n, .inl (av k))) ∧ ∀ g : Nat → Int32, (gW κ G iv av).set q (G.2.1 k, .inl (gC κ G k, n, .inl g)) = gW κ G iv (va_up av k g) := by
  obtain ⟨q, h1, h2⟩ := gA_get G.2.1 (gC κ G) av (cTb κ) 0 k h
  rw [Nat.zero_add] at h1 h2
  refine ⟨q + 1, by simpa [gW] using h1, fun g => ?_⟩
  show (G.1, .inr (cI κ, gF G.2.1 iv 0 (cTb κ))) :: (gA G.2.1 (gC κ G) av 0 (cTb κ)).set q _ = _ :: _
  rw [h2 g]
/-- locals -/
def gget (i : Nat) : List (Nat × Value) → Option Value
  | [] => none
  | q :: t => if q.1 = i then some q.2 else gget i t
theorem gget_mem {i : Nat} {v : Value} : ∀ {lv : List (Nat × Value)}, gget i lv = some v → (i, v) ∈ lv
  | [], h => by simp [gget] at h
  | q :: t, h => by
    unfold gget at h
    by_cases hq : q.1 = i
    · rw [if_pos hq] at h
      obtain ⟨a, b⟩ := q
      cases h
      cases hq
      exact List.mem_cons_self
    · rw [if_neg hq] at h
      exact List.mem_cons_of_mem _ (gget_mem h)
theorem lv_gget {ls : Array Slot} {nL i : Nat} {lv : List (Nat × Value)} {v : Value} (h : lv_has ls nL lv) (hg : gget i lv = some v) : ls[i]? = some (.val v) := h.2.2 (i, v) (gget_mem hg)
def gdel (i : Nat) : List (Nat × Value) → List (Nat × Value)
  | [] => []
  | q :: t => if q.1 = i then gdel i t else q :: gdel i t
def gset (i : Nat) (v : Value) : List (Nat × Value) → List (Nat × Value)
  | [] => [(i, v)]
  | q :: t => if q.1 = i then (i, v) :: gdel i t else q :: gset i v t
def gcat : List (Nat × Value) → Bool
  | [] => true
  | q :: t => decide (q.2.category = 1) && gcat t
theorem gdel_mem {i : Nat} {q : Nat × Value} : ∀ {lv : List (Nat × Value)}, q ∈ gdel i lv → q ∈ lv ∧ q.1 ≠ i
  | [], h => by simp [gdel] at h
  | r :: t, h => by
    unfold gdel at h
    by_cases hr : r.1 = i
    · rw [if_pos hr] at h
      exact ⟨List.mem_cons_of_mem _ (gdel_mem h).1, (gdel_mem h).2⟩
    · rw [if_neg hr] at h
      rcases List.mem_cons.mp h with rfl | h
      · exact ⟨List.mem_cons_self, hr⟩
      · exact ⟨List.mem_cons_of_mem _ (gdel_mem h).1, (gdel_mem h).2⟩
theorem gset_mem {i : Nat} {v : Value} {q : Nat × Value} : ∀ {lv : List (Nat × Value)}, q ∈ gset i v lv → q = (i, v) ∨ (q ∈ lv ∧ q.1 ≠ i)
  | [], h => by
    simp [gset] at h
    exact Or.inl h
  | r :: t, h => by
    unfold gset at h
    by_cases hr : r.1 = i
    · rw [if_pos hr] at h
      rcases List.mem_cons.mp h with rfl | h
      · exact Or.inl rfl
      · exact Or.inr ⟨List.mem_cons_of_mem _ (gdel_mem h).1, (gdel_mem h).2⟩
    · rw [if_neg hr] at h
      rcases List.mem_cons.mp h with rfl | h
      · exact Or.inr ⟨List.mem_cons_self, hr⟩
      · rcases gset_mem h with h | h
        · exact Or.inl h
        · exact Or.inr ⟨List.mem_cons_of_mem _ h.1, h.2⟩
theorem gcat_at : ∀ {lv : List (Nat × Value)}, gcat lv = true → ∀ q ∈ lv, q.2.category = 1
  | [], _, q, hq => by simp at hq
  | r :: t, h, q, hq => by
    simp only [gcat, Bool.and_eq_true, decide_eq_true_eq] at h
    rcases List.mem_cons.mp hq with rfl | hq
    · exact h.1
    · exact gcat_at h.2 q hq
theorem lv_to {ls : Array Slot} {nL i : Nat} {v : Value} {lv : List (Nat × Value)} (hc : gcat lv = true) (h : lv_has ls nL ((i, v) :: lv.filter (fun q => !(q.1 == i) && !(q.1 + 1 == i && q.2.category == 2)))) : lv_has ls nL (gset i v lv) := by
  refine ⟨h.1, h.2.1, fun q hq => h.2.2 q ?_⟩
  rcases gset_mem hq with rfl | ⟨h1, h2⟩
  · exact List.mem_cons_self
  · refine List.mem_cons_of_mem _ (List.mem_filter.mpr ⟨h1, ?_⟩)
    have := gcat_at hc q h1
    simp [h2, this]
def gP (κ : Bool) (G : gG) (A : Nat → Prop) (s : State) (iv : Nat → Int32) (av : Nat → Nat → Int32) (H : Heap) (locs : List Loc) : Prop := va_P G.2.2.2.2 classes (gW κ G iv av) H ∧ va_D A (gW κ G iv av) ∧ va_S A s.heap H locs
def gJ (κ : Bool) (G : gG) (p : Program) (l : Launch) (e : Env) (R : Room) (s : State) (m : MethodId) (args : Array Value) (below : List Frame) (meth : Method) (c : Code) (nL : Nat) (A : Nat → Prop) (Q : State → Prop) : gJT := fun pc lv st iv av =>
  ∀ (ls : Array Slot) (H : Heap) (locs : List Loc), lv_has ls nL lv → gP κ G A s iv av H locs → W p l e R s m args below meth c H locs 0 0 Q (F0 m pc ls st)
def gCx (κ : Bool) (G : gG) (cc : ByteArray) (nL : Nat) (p : Program) (s : State) (m : MethodId) (args : Array Value) (c : Code) (A : Nat → Prop) : Prop :=
  p.tables.exec = Jvm.exec ∧ c.code = cc ∧ c.maxLocals = nL ∧ s.vm.findClass (cR κ) = some m.cls ∧ (∀ w ∈ tW, w.before args s = true) ∧ gK G s ∧ (∀ q, s.heap.size ≤ q → A q)
def gR (κ : Bool) (G : gG) (l : Launch) (R : Room) (cc : ByteArray) (nL : Nat) (J : gJT) : Prop :=
  ∃ (p : Program) (e : Env) (s : State) (m : MethodId) (args : Array Value) (below : List Frame) (meth : Method) (c : Code) (A : Nat → Prop) (Q : State → Prop), gCx κ G cc nL p s m args c A ∧ J = gJ κ G p l e R s m args below meth c nL A Q
def gFl (κ : Bool) (k idx : Nat) : Prop := Cond.fieldLink (cR κ) idx (cR κ) (cF κ k).2.1 (cF κ k).2.2.1 ∈ tW
def gPut (κ : Bool) (k : Nat) (v : Int32) : Prop := (cF κ k).2.2.2 = false ∧ ∃ ty, parseFieldDescriptor (cF κ k).2.2.1 = some ty ∧ narrow ty (.int v) = .int v ∧ fits ty (.int v) = true
def b2 (b : Bool) : Int32 := match b with
  | true => 1
  | false => 0
theorem nI_mul (a b : Nat) : nI a * nI b = nI (a * b) := pk_mul a b
theorem nI_sub {a b : Nat} (h : b ≤ a) : nI a - nI b = nI (a - b) := pk_sub h
end
section
section GR
variable {κ : Bool} {G : gG} {l : Launch} {R : Room} {cc : ByteArray} {nL : Nat} {J : gJT} {pc : Nat} {lv : List (Nat × Value)} {st : List Value} {iv : Nat → Int32} {av : Nat → Nat → Int32}
theorem g_iconst (hJ : gR κ G l R cc nL J) {n : Int} {v : Int32} (hd : decode cc pc = .ok (.iconst n, 1)) (hv : Int32.ofInt n = v) (kk : J (pc + 1) lv (.int v :: st) iv av) : J pc lv st iv av := by
  obtain ⟨p, e, s, m, args, below, meth, c, A, Q, ⟨hx, hb, hml, hown, hts, hK, hA⟩, rfl⟩ := hJ
  intro ls H locs hl hP
  exact lv_iconst hx hb hd hv (kk ls H locs hl hP)
theorem g_bipush (hJ : gR κ G l R cc nL J) {n : Int} {v : Int32} (hd : decode cc pc = .ok (.bipush n, 2)) (hv : (Int8.ofInt n).toInt32 = v) (kk : J (pc + 2) lv (.int v :: st) iv av) : J pc lv st iv av := by
  obtain ⟨p, e, s, m, args, below, meth, c, A, Q, ⟨hx, hb, hml, hown, hts, hK, hA⟩, rfl⟩ := hJ
  intro ls H locs hl hP
  exact lv_bipush hx hb hd hv (kk ls H locs hl hP)
theorem g_sipush (hJ : gR κ G l R cc nL J) {n : Int} {v : Int32} (hd : decode cc pc = .ok (.sipush n, 3)) (hv : (Int16.ofInt n).toInt32 = v) (kk : J (pc + 3) lv (.int v :: st) iv av) : J pc lv st iv av := by
  obtain ⟨p, e, s, m, args, below, meth, c, A, Q, ⟨hx, hb, hml, hown, hts, hK, hA⟩, rfl⟩ := hJ
  intro ls H locs hl hP
  exact lv_sipush hx hb hd hv (kk ls H locs hl hP)
theorem g_ldc (hJ : gR κ G l R cc nL J) {idx : Nat} {v : Int32} (hc : Cond.constant (cR κ) idx v ∈ tW) (hd : decode cc pc = .ok (.ldc idx, 2)) (kk : J (pc + 2) lv (.int v :: st) iv av) : J pc lv st iv av := by
  obtain ⟨p, e, s, m, args, below, meth, c, A, Q, ⟨hx, hb, hml, hown, hts, hK, hA⟩, rfl⟩ := hJ
  intro ls H locs hl hP
  exact lv_ldc hx hb hown (hts _ hc) hd (kk ls H locs hl hP)
theorem g_iload_n (hJ : gR κ G l R cc nL J) {k : Fin 4} {x : Int32} (hd : decode cc pc = .ok (.iload_n k, 1)) (hg : gget k.val lv = some (.int x)) (kk : J (pc + 1) lv (.int x :: st) iv av) : J pc lv st iv av := by
  obtain ⟨p, e, s, m, args, below, meth, c, A, Q, ⟨hx, hb, hml, hown, hts, hK, hA⟩, rfl⟩ := hJ
  intro ls H locs hl hP
  exact lv_iload_n hx hb hd rfl (lv_gget hl hg) (kk ls H locs hl hP)
theorem g_iload (hJ : gR κ G l R cc nL J) {i : Nat} {x : Int32} (hd : decode cc pc = .ok (.iload i, 2)) (hg : gget i lv = some (.int x)) (kk : J (pc + 2) lv (.int x :: st) iv av) : J pc lv st iv av := by
  obtain ⟨p, e, s, m, args, below, meth, c, A, Q, ⟨hx, hb, hml, hown, hts, hK, hA⟩, rfl⟩ := hJ
  intro ls H locs hl hP
  exact lv_iload hx hb hd (lv_gget hl hg) (kk ls H locs hl hP)
theorem g_aload_n (hJ : gR κ G l R cc nL J) {k : Fin 4} {x : Nat} (hd : decode cc pc = .ok (.aload_n k, 1)) (hg : gget k.val lv = some (.ref x)) (kk : J (pc + 1) lv (.ref x :: st) iv av) : J pc lv st iv av := by
  obtain ⟨p, e, s, m, args, below, meth, c, A, Q, ⟨hx, hb, hml, hown, hts, hK, hA⟩, rfl⟩ := hJ
  intro ls H locs hl hP
  exact lv_aload_n hx hb hd rfl (lv_gget hl hg) (kk ls H locs hl hP)
theorem g_istore_n (hJ : gR κ G l R cc nL J) {k : Fin 4} {x : Int32} {lv2 : List (Nat × Value)} (hd : decode cc pc = .ok (.istore_n k, 1)) (hn : k.val < nL) (hc : gcat lv = true) (hs : gset k.val (.int x) lv = lv2) (kk : J (pc + 1) lv2 st iv av) : J pc lv (.int x :: st) iv av := by
  obtain ⟨p, e, s, m, args, below, meth, c, A, Q, ⟨hx, hb, hml, hown, hts, hK, hA⟩, rfl⟩ := hJ
  intro ls H locs hl hP
  exact lv_istore_n hx hb hd rfl hl hn rfl (fun ls2 h2 => kk ls2 H locs (hs ▸ lv_to hc h2) hP)
theorem g_istore (hJ : gR κ G l R cc nL J) {i : Nat} {x : Int32} {lv2 : List (Nat × Value)} (hd : decode cc pc = .ok (.istore i, 2)) (hn : i < nL) (hc : gcat lv = true) (hs : gset i (.int x) lv = lv2) (kk : J (pc + 2) lv2 st iv av) : J pc lv (.int x :: st) iv av := by
  obtain ⟨p, e, s, m, args, below, meth, c, A, Q, ⟨hx, hb, hml, hown, hts, hK, hA⟩, rfl⟩ := hJ
  intro ls H locs hl hP
  exact lv_istore hx hb hd hl hn rfl (fun ls2 h2 => kk ls2 H locs (hs ▸ lv_to hc h2) hP)
theorem g_place {lv : List (Nat × Value)} {i : Nat} {v : Value} (h : gget i lv = some v) : ∃ k : Nat, lv[k]? = some (i, v) := List.getElem?_of_mem (gget_mem h)
theorem g_iinc (hJ : gR κ G l R cc nL J) {i : Nat} {n : Int} {x v : Int32} {lv2 : List (Nat × Value)} (hd : decode cc pc = .ok (.iinc i n, 3)) (hg : gget i lv = some (.int x)) (hv : x + Int32.ofInt n = v) (hn : i < nL) (hc : gcat lv = true) (hs : gset i (.int v) lv = lv2) (kk : J (pc + 3) lv2 st iv av) : J pc lv st iv av := by
  obtain ⟨p, e, s, m, args, below, meth, c, A, Q, ⟨hx, hb, hml, hown, hts, hK, hA⟩, rfl⟩ := hJ
  intro ls H locs hl hP
  obtain ⟨q, hq⟩ := g_place hg
  exact lv_iinc hx hb hd hl hq hv hn rfl (fun ls2 h2 => kk ls2 H locs (hs ▸ lv_to hc h2) hP)
theorem g_iadd (hJ : gR κ G l R cc nL J) {x y : Int32} (hd : decode cc pc = .ok (.iadd, 1)) (kk : J (pc + 1) lv (.int (x + y) :: st) iv av) : J pc lv (.int y :: .int x :: st) iv av := by
  obtain ⟨p, e, s, m, args, below, meth, c, A, Q, ⟨hx, hb, hml, hown, hts, hK, hA⟩, rfl⟩ := hJ
  intro ls H locs hl hP
  exact lv_iadd hx hb hd (kk ls H locs hl hP)
theorem g_isub (hJ : gR κ G l R cc nL J) {x y : Int32} (hd : decode cc pc = .ok (.isub, 1)) (kk : J (pc + 1) lv (.int (x - y) :: st) iv av) : J pc lv (.int y :: .int x :: st) iv av := by
  obtain ⟨p, e, s, m, args, below, meth, c, A, Q, ⟨hx, hb, hml, hown, hts, hK, hA⟩, rfl⟩ := hJ
  intro ls H locs hl hP
  exact lv_isub hx hb hd (kk ls H locs hl hP)
theorem g_imul (hJ : gR κ G l R cc nL J) {x y : Int32} (hd : decode cc pc = .ok (.imul, 1)) (kk : J (pc + 1) lv (.int (x * y) :: st) iv av) : J pc lv (.int y :: .int x :: st) iv av := by
  obtain ⟨p, e, s, m, args, below, meth, c, A, Q, ⟨hx, hb, hml, hown, hts, hK, hA⟩, rfl⟩ := hJ
  intro ls H locs hl hP
  exact lv_imul hx hb hd (kk ls H locs hl hP)
theorem g_iand (hJ : gR κ G l R cc nL J) {x y : Int32} (hd : decode cc pc = .ok (.iand, 1)) (kk : J (pc + 1) lv (.int (x &&& y) :: st) iv av) : J pc lv (.int y :: .int x :: st) iv av := by
  obtain ⟨p, e, s, m, args, below, meth, c, A, Q, ⟨hx, hb, hml, hown, hts, hK, hA⟩, rfl⟩ := hJ
  intro ls H locs hl hP
  exact lv_iand hx hb hd (kk ls H locs hl hP)
theorem g_ior (hJ : gR κ G l R cc nL J) {x y : Int32} (hd : decode cc pc = .ok (.ior, 1)) (kk : J (pc + 1) lv (.int (x ||| y) :: st) iv av) : J pc lv (.int y :: .int x :: st) iv av := by
  obtain ⟨p, e, s, m, args, below, meth, c, A, Q, ⟨hx, hb, hml, hown, hts, hK, hA⟩, rfl⟩ := hJ
  intro ls H locs hl hP
  exact lv_ior hx hb hd (kk ls H locs hl hP)
theorem g_ishl (hJ : gR κ G l R cc nL J) {x y : Int32} (hd : decode cc pc = .ok (.ishl, 1)) (kk : J (pc + 1) lv (.int (x <<< (y &&& 31)) :: st) iv av) : J pc lv (.int y :: .int x :: st) iv av := by
  obtain ⟨p, e, s, m, args, below, meth, c, A, Q, ⟨hx, hb, hml, hown, hts, hK, hA⟩, rfl⟩ := hJ
  intro ls H locs hl hP
  exact lv_ishl hx hb hd (kk ls H locs hl hP)
theorem g_ishr (hJ : gR κ G l R cc nL J) {x y : Int32} (hd : decode cc pc = .ok (.ishr, 1)) (kk : J (pc + 1) lv (.int (x >>> (y &&& 31)) :: st) iv av) : J pc lv (.int y :: .int x :: st) iv av := by
  obtain ⟨p, e, s, m, args, below, meth, c, A, Q, ⟨hx, hb, hml, hown, hts, hK, hA⟩, rfl⟩ := hJ
  intro ls H locs hl hP
  exact lv_ishr hx hb hd (kk ls H locs hl hP)
theorem g_ineg (hJ : gR κ G l R cc nL J) {x : Int32} (hd : decode cc pc = .ok (.ineg, 1)) (kk : J (pc + 1) lv (.int (-x) :: st) iv av) : J pc lv (.int x :: st) iv av := by
  obtain ⟨p, e, s, m, args, below, meth, c, A, Q, ⟨hx, hb, hml, hown, hts, hK, hA⟩, rfl⟩ := hJ
  intro ls H locs hl hP
  exact lv_ineg hx hb hd (kk ls H locs hl hP)
theorem g_idiv (hJ : gR κ G l R cc nL J) {x y : Int32} (hd : decode cc pc = .ok (.idiv, 1)) (hn : ¬ y = 0) (kk : J (pc + 1) lv (.int (x / y) :: st) iv av) : J pc lv (.int y :: .int x :: st) iv av := by
  obtain ⟨p, e, s, m, args, below, meth, c, A, Q, ⟨hx, hb, hml, hown, hts, hK, hA⟩, rfl⟩ := hJ
  intro ls H locs hl hP
  exact lv_idiv hx hb hd hn (kk ls H locs hl hP)
theorem g_irem (hJ : gR κ G l R cc nL J) {x y : Int32} (hd : decode cc pc = .ok (.irem, 1)) (hn : ¬ y = 0) (kk : J (pc + 1) lv (.int (x - x / y * y) :: st) iv av) : J pc lv (.int y :: .int x :: st) iv av := by
  obtain ⟨p, e, s, m, args, below, meth, c, A, Q, ⟨hx, hb, hml, hown, hts, hK, hA⟩, rfl⟩ := hJ
  intro ls H locs hl hP
  exact lv_irem hx hb hd hn (kk ls H locs hl hP)
theorem g_dup (hJ : gR κ G l R cc nL J) {v : Value} (hd : decode cc pc = .ok (.dup, 1)) (hv : v.category = 1) (kk : J (pc + 1) lv (v :: v :: st) iv av) : J pc lv (v :: st) iv av := by
  obtain ⟨p, e, s, m, args, below, meth, c, A, Q, ⟨hx, hb, hml, hown, hts, hK, hA⟩, rfl⟩ := hJ
  intro ls H locs hl hP
  exact lv_dup hx hb hd hv (kk ls H locs hl hP)
theorem g_iaddn (hJ : gR κ G l R cc nL J) {a b : Nat} (hd : decode cc pc = .ok (.iadd, 1)) (kk : J (pc + 1) lv (.int (nI (a + b)) :: st) iv av) : J pc lv (.int (nI b) :: .int (nI a) :: st) iv av := g_iadd hJ hd (by rw [nI_add]; exact kk)
theorem g_isubn (hJ : gR κ G l R cc nL J) {a b : Nat} (hd : decode cc pc = .ok (.isub, 1)) (h : b ≤ a) (kk : J (pc + 1) lv (.int (nI (a - b)) :: st) iv av) : J pc lv (.int (nI b) :: .int (nI a) :: st) iv av := g_isub hJ hd (by rw [nI_sub h]; exact kk)
theorem g_imuln (hJ : gR κ G l R cc nL J) {a b : Nat} (hd : decode cc pc = .ok (.imul, 1)) (kk : J (pc + 1) lv (.int (nI (a * b)) :: st) iv av) : J pc lv (.int (nI b) :: .int (nI a) :: st) iv av := g_imul hJ hd (by rw [nI_mul]; exact kk)
theorem g_idivn (hJ : gR κ G l R cc nL J) {a b : Nat} (hd : decode cc pc = .ok (.idiv, 1)) (ha : a < 2 ^ 31) (h0 : 0 < b) (hb : b < 2 ^ 31) (kk : J (pc + 1) lv (.int (nI (a / b)) :: st) iv av) : J pc lv (.int (nI b) :: .int (nI a) :: st) iv av := g_idiv hJ hd (nI_ne0 h0 hb) (by rw [pk_div ha h0 hb]; exact kk)
theorem g_iremn (hJ : gR κ G l R cc nL J) {a b : Nat} (hd : decode cc pc = .ok (.irem, 1)) (ha : a < 2 ^ 31) (h0 : 0 < b) (hb : b < 2 ^ 31) (kk : J (pc + 1) lv (.int (nI (a % b)) :: st) iv av) : J pc lv (.int (nI b) :: .int (nI a) :: st) iv av := g_irem hJ hd (nI_ne0 h0 hb) (by rw [pk_rem ha h0 hb]; exact kk)
theorem g_inc (hJ : gR κ G l R cc nL J) {i a : Nat} {lv2 : List (Nat × Value)} (hd : decode cc pc = .ok (.iinc i 1, 3)) (hg : gget i lv = some (.int (nI a))) (hn : i < nL) (hc : gcat lv = true) (hs : gset i (.int (nI (a + 1))) lv = lv2) (kk : J (pc + 3) lv2 st iv av) : J pc lv st iv av := g_iinc hJ hd hg (nI_1 a) hn hc hs kk
theorem g_dec (hJ : gR κ G l R cc nL J) {i a : Nat} {lv2 : List (Nat × Value)} (hd : decode cc pc = .ok (.iinc i (-1), 3)) (hg : gget i lv = some (.int (nI (a + 1)))) (hn : i < nL) (hc : gcat lv = true) (hs : gset i (.int (nI a)) lv = lv2) (kk : J (pc + 3) lv2 st iv av) : J pc lv st iv av := g_iinc hJ hd hg (pk_m1 a) hn hc hs kk
theorem g_top {x y : Int32} (h : x = y) (kk : J pc lv (.int y :: st) iv av) : J pc lv (.int x :: st) iv av := h ▸ kk
theorem g_top2 {x y : Int32} {v : Value} (h : x = y) (kk : J pc lv (v :: .int y :: st) iv av) : J pc lv (v :: .int x :: st) iv av := h ▸ kk
theorem g_lv {lv2 : List (Nat × Value)} (h : lv = lv2) (kk : J pc lv2 st iv av) : J pc lv st iv av := h ▸ kk
theorem g_name {x : Int32} (kk : ∀ y : Int32, y = x → J pc lv (.int y :: st) iv av) : J pc lv (.int x :: st) iv av := kk x rfl
theorem g_icmp_eq (hJ : gR κ G l R cc nL J) {x y : Int32} {off : Int} {tgt : Nat} (hd : decode cc pc = .ok (.if_icmp .eq off, 3)) (ht : (pc : Int) + off = (tgt : Int)) (kt : x = y → J tgt lv st iv av) (kk : ¬ (x = y) → J (pc + 3) lv st iv av) : J pc lv (.int y :: .int x :: st) iv av := by
  obtain ⟨p, e, s, m, args, below, meth, c, A, Q, ⟨hx, hb, hml, hown, hts, hK, hA⟩, rfl⟩ := hJ
  intro ls H locs hl hP
  exact lv_icmp_eq hx hb hd ht (fun q => kt q ls H locs hl hP) (fun q => kk q ls H locs hl hP)
theorem g_if_eq (hJ : gR κ G l R cc nL J) {x : Int32} {off : Int} {tgt : Nat} (hd : decode cc pc = .ok (.ifCond .eq off, 3)) (ht : (pc : Int) + off = (tgt : Int)) (kt : x = 0 → J tgt lv st iv av) (kk : ¬ (x = 0) → J (pc + 3) lv st iv av) : J pc lv (.int x :: st) iv av := by
  obtain ⟨p, e, s, m, args, below, meth, c, A, Q, ⟨hx, hb, hml, hown, hts, hK, hA⟩, rfl⟩ := hJ
  intro ls H locs hl hP
  exact lv_if_eq hx hb hd ht (fun q => kt q ls H locs hl hP) (fun q => kk q ls H locs hl hP)
theorem g_icmp_ne (hJ : gR κ G l R cc nL J) {x y : Int32} {off : Int} {tgt : Nat} (hd : decode cc pc = .ok (.if_icmp .ne off, 3)) (ht : (pc : Int) + off = (tgt : Int)) (kt : ¬ x = y → J tgt lv st iv av) (kk : x = y → J (pc + 3) lv st iv av) : J pc lv (.int y :: .int x :: st) iv av := by
  obtain ⟨p, e, s, m, args, below, meth, c, A, Q, ⟨hx, hb, hml, hown, hts, hK, hA⟩, rfl⟩ := hJ
  intro ls H locs hl hP
  exact lv_icmp_ne hx hb hd ht (fun q => kt q ls H locs hl hP) (fun q => kk q ls H locs hl hP)
theorem g_if_ne (hJ : gR κ G l R cc nL J) {x : Int32} {off : Int} {tgt : Nat} (hd : decode cc pc = .ok (.ifCond .ne off, 3)) (ht : (pc : Int) + off = (tgt : Int)) (kt : ¬ x = 0 → J tgt lv st iv av) (kk : x = 0 → J (pc + 3) lv st iv av) : J pc lv (.int x :: st) iv av := by
  obtain ⟨p, e, s, m, args, below, meth, c, A, Q, ⟨hx, hb, hml, hown, hts, hK, hA⟩, rfl⟩ := hJ
  intro ls H locs hl hP
  exact lv_if_ne hx hb hd ht (fun q => kt q ls H locs hl hP) (fun q => kk q ls H locs hl hP)
theorem g_icmp_lt (hJ : gR κ G l R cc nL J) {x y : Int32} {off : Int} {tgt : Nat} (hd : decode cc pc = .ok (.if_icmp .lt off, 3)) (ht : (pc : Int) + off = (tgt : Int)) (kt : x < y → J tgt lv st iv av) (kk : ¬ (x < y) → J (pc + 3) lv st iv av) : J pc lv (.int y :: .int x :: st) iv av := by
  obtain ⟨p, e, s, m, args, below, meth, c, A, Q, ⟨hx, hb, hml, hown, hts, hK, hA⟩, rfl⟩ := hJ
  intro ls H locs hl hP
  exact lv_icmp_lt hx hb hd ht (fun q => kt q ls H locs hl hP) (fun q => kk q ls H locs hl hP)
theorem g_if_lt (hJ : gR κ G l R cc nL J) {x : Int32} {off : Int} {tgt : Nat} (hd : decode cc pc = .ok (.ifCond .lt off, 3)) (ht : (pc : Int) + off = (tgt : Int)) (kt : x < 0 → J tgt lv st iv av) (kk : ¬ (x < 0) → J (pc + 3) lv st iv av) : J pc lv (.int x :: st) iv av := by
  obtain ⟨p, e, s, m, args, below, meth, c, A, Q, ⟨hx, hb, hml, hown, hts, hK, hA⟩, rfl⟩ := hJ
  intro ls H locs hl hP
  exact lv_if_lt hx hb hd ht (fun q => kt q ls H locs hl hP) (fun q => kk q ls H locs hl hP)
theorem g_icmp_ge (hJ : gR κ G l R cc nL J) {x y : Int32} {off : Int} {tgt : Nat} (hd : decode cc pc = .ok (.if_icmp .ge off, 3)) (ht : (pc : Int) + off = (tgt : Int)) (kt : y ≤ x → J tgt lv st iv av) (kk : ¬ (y ≤ x) → J (pc + 3) lv st iv av) : J pc lv (.int y :: .int x :: st) iv av := by
  obtain ⟨p, e, s, m, args, below, meth, c, A, Q, ⟨hx, hb, hml, hown, hts, hK, hA⟩, rfl⟩ := hJ
  intro ls H locs hl hP
  exact lv_icmp_ge hx hb hd ht (fun q => kt q ls H locs hl hP) (fun q => kk q ls H locs hl hP)
theorem g_if_ge (hJ : gR κ G l R cc nL J) {x : Int32} {off : Int} {tgt : Nat} (hd : decode cc pc = .ok (.ifCond .ge off, 3)) (ht : (pc : Int) + off = (tgt : Int)) (kt : 0 ≤ x → J tgt lv st iv av) (kk : ¬ (0 ≤ x) → J (pc + 3) lv st iv av) : J pc lv (.int x :: st) iv av := by
  obtain ⟨p, e, s, m, args, below, meth, c, A, Q, ⟨hx, hb, hml, hown, hts, hK, hA⟩, rfl⟩ := hJ
  intro ls H locs hl hP
  exact lv_if_ge hx hb hd ht (fun q => kt q ls H locs hl hP) (fun q => kk q ls H locs hl hP)
theorem g_icmp_gt (hJ : gR κ G l R cc nL J) {x y : Int32} {off : Int} {tgt : Nat} (hd : decode cc pc = .ok (.if_icmp .gt off, 3)) (ht : (pc : Int) + off = (tgt : Int)) (kt : y < x → J tgt lv st iv av) (kk : ¬ (y < x) → J (pc + 3) lv st iv av) : J pc lv (.int y :: .int x :: st) iv av := by
  obtain ⟨p, e, s, m, args, below, meth, c, A, Q, ⟨hx, hb, hml, hown, hts, hK, hA⟩, rfl⟩ := hJ
  intro ls H locs hl hP
  exact lv_icmp_gt hx hb hd ht (fun q => kt q ls H locs hl hP) (fun q => kk q ls H locs hl hP)
theorem g_if_gt (hJ : gR κ G l R cc nL J) {x : Int32} {off : Int} {tgt : Nat} (hd : decode cc pc = .ok (.ifCond .gt off, 3)) (ht : (pc : Int) + off = (tgt : Int)) (kt : 0 < x → J tgt lv st iv av) (kk : ¬ (0 < x) → J (pc + 3) lv st iv av) : J pc lv (.int x :: st) iv av := by
  obtain ⟨p, e, s, m, args, below, meth, c, A, Q, ⟨hx, hb, hml, hown, hts, hK, hA⟩, rfl⟩ := hJ
  intro ls H locs hl hP
  exact lv_if_gt hx hb hd ht (fun q => kt q ls H locs hl hP) (fun q => kk q ls H locs hl hP)
theorem g_icmp_le (hJ : gR κ G l R cc nL J) {x y : Int32} {off : Int} {tgt : Nat} (hd : decode cc pc = .ok (.if_icmp .le off, 3)) (ht : (pc : Int) + off = (tgt : Int)) (kt : x ≤ y → J tgt lv st iv av) (kk : ¬ (x ≤ y) → J (pc + 3) lv st iv av) : J pc lv (.int y :: .int x :: st) iv av := by
  obtain ⟨p, e, s, m, args, below, meth, c, A, Q, ⟨hx, hb, hml, hown, hts, hK, hA⟩, rfl⟩ := hJ
  intro ls H locs hl hP
  exact lv_icmp_le hx hb hd ht (fun q => kt q ls H locs hl hP) (fun q => kk q ls H locs hl hP)
theorem g_if_le (hJ : gR κ G l R cc nL J) {x : Int32} {off : Int} {tgt : Nat} (hd : decode cc pc = .ok (.ifCond .le off, 3)) (ht : (pc : Int) + off = (tgt : Int)) (kt : x ≤ 0 → J tgt lv st iv av) (kk : ¬ (x ≤ 0) → J (pc + 3) lv st iv av) : J pc lv (.int x :: st) iv av := by
  obtain ⟨p, e, s, m, args, below, meth, c, A, Q, ⟨hx, hb, hml, hown, hts, hK, hA⟩, rfl⟩ := hJ
  intro ls H locs hl hP
  exact lv_if_le hx hb hd ht (fun q => kt q ls H locs hl hP) (fun q => kk q ls H locs hl hP)
theorem g_n_eq (hJ : gR κ G l R cc nL J) {a b : Nat} {off : Int} {tgt : Nat} (hd : decode cc pc = .ok (.if_icmp .eq off, 3)) (ht : (pc : Int) + off = (tgt : Int)) (ha : a < 2 ^ 31) (hb : b < 2 ^ 31) (kt : a = b → J tgt lv st iv av) (kk : a ≠ b → J (pc + 3) lv st iv av) : J pc lv (.int (nI b) :: .int (nI a) :: st) iv av := by
  refine g_icmp_eq hJ hd ht (fun q => kt ?_) (fun q => kk ?_)
  all_goals (simp only [ne_eq, gt_iff_lt, ge_iff_le, nI_eq ha hb, nI_eq hb ha, nI_ltI ha hb, nI_ltI hb ha, nI_leI ha hb, nI_leI hb ha] at q; omega)
theorem g_n_ne (hJ : gR κ G l R cc nL J) {a b : Nat} {off : Int} {tgt : Nat} (hd : decode cc pc = .ok (.if_icmp .ne off, 3)) (ht : (pc : Int) + off = (tgt : Int)) (ha : a < 2 ^ 31) (hb : b < 2 ^ 31) (kt : a ≠ b → J tgt lv st iv av) (kk : a = b → J (pc + 3) lv st iv av) : J pc lv (.int (nI b) :: .int (nI a) :: st) iv av := by
  refine g_icmp_ne hJ hd ht (fun q => kt ?_) (fun q => kk ?_)
  all_goals (simp only [ne_eq, gt_iff_lt, ge_iff_le, nI_eq ha hb, nI_eq hb ha, nI_ltI ha hb, nI_ltI hb ha, nI_leI ha hb, nI_leI hb ha] at q; omega)
theorem g_n_lt (hJ : gR κ G l R cc nL J) {a b : Nat} {off : Int} {tgt : Nat} (hd : decode cc pc = .ok (.if_icmp .lt off, 3)) (ht : (pc : Int) + off = (tgt : Int)) (ha : a < 2 ^ 31) (hb : b < 2 ^ 31) (kt : a < b → J tgt lv st iv av) (kk : b ≤ a → J (pc + 3) lv st iv av) : J pc lv (.int (nI b) :: .int (nI a) :: st) iv av := by
  refine g_icmp_lt hJ hd ht (fun q => kt ?_) (fun q => kk ?_)
  all_goals (simp only [ne_eq, gt_iff_lt, ge_iff_le, nI_eq ha hb, nI_eq hb ha, nI_ltI ha hb, nI_ltI hb ha, nI_leI ha hb, nI_leI hb ha] at q; omega)
theorem g_n_ge (hJ : gR κ G l R cc nL J) {a b : Nat} {off : Int} {tgt : Nat} (hd : decode cc pc = .ok (.if_icmp .ge off, 3)) (ht : (pc : Int) + off = (tgt : Int)) (ha : a < 2 ^ 31) (hb : b < 2 ^ 31) (kt : b ≤ a → J tgt lv st iv av) (kk : a < b → J (pc + 3) lv st iv av) : J pc lv (.int (nI b) :: .int (nI a) :: st) iv av := by
  refine g_icmp_ge hJ hd ht (fun q => kt ?_) (fun q => kk ?_)
  all_goals (simp only [ne_eq, gt_iff_lt, ge_iff_le, nI_eq ha hb, nI_eq hb ha, nI_ltI ha hb, nI_ltI hb ha, nI_leI ha hb, nI_leI hb ha] at q; omega)
theorem g_n_gt (hJ : gR κ G l R cc nL J) {a b : Nat} {off : Int} {tgt : Nat} (hd : decode cc pc = .ok (.if_icmp .gt off, 3)) (ht : (pc : Int) + off = (tgt : Int)) (ha : a < 2 ^ 31) (hb : b < 2 ^ 31) (kt : b < a → J tgt lv st iv av) (kk : a ≤ b → J (pc + 3) lv st iv av) : J pc lv (.int (nI b) :: .int (nI a) :: st) iv av := by
  refine g_icmp_gt hJ hd ht (fun q => kt ?_) (fun q => kk ?_)
  all_goals (simp only [ne_eq, gt_iff_lt, ge_iff_le, nI_eq ha hb, nI_eq hb ha, nI_ltI ha hb, nI_ltI hb ha, nI_leI ha hb, nI_leI hb ha] at q; omega)
theorem g_n_le (hJ : gR κ G l R cc nL J) {a b : Nat} {off : Int} {tgt : Nat} (hd : decode cc pc = .ok (.if_icmp .le off, 3)) (ht : (pc : Int) + off = (tgt : Int)) (ha : a < 2 ^ 31) (hb : b < 2 ^ 31) (kt : a ≤ b → J tgt lv st iv av) (kk : b < a → J (pc + 3) lv st iv av) : J pc lv (.int (nI b) :: .int (nI a) :: st) iv av := by
  refine g_icmp_le hJ hd ht (fun q => kt ?_) (fun q => kk ?_)
  all_goals (simp only [ne_eq, gt_iff_lt, ge_iff_le, nI_eq ha hb, nI_eq hb ha, nI_ltI ha hb, nI_ltI hb ha, nI_leI ha hb, nI_leI hb ha] at q; omega)
theorem g_beq (hJ : gR κ G l R cc nL J) {b : Bool} {off : Int} {tgt : Nat} (hd : decode cc pc = .ok (.ifCond .eq off, 3)) (ht : (pc : Int) + off = (tgt : Int)) (kt : b = false → J tgt lv st iv av) (kk : b = true → J (pc + 3) lv st iv av) : J pc lv (.int (b2 b) :: st) iv av := by
  refine g_if_eq hJ hd ht (fun q => kt ?_) (fun q => kk ?_)
  · cases b
    · rfl
    · exact absurd q (by decide)
  · cases b
    · exact absurd rfl q
    · rfl
theorem g_bne (hJ : gR κ G l R cc nL J) {b : Bool} {off : Int} {tgt : Nat} (hd : decode cc pc = .ok (.ifCond .ne off, 3)) (ht : (pc : Int) + off = (tgt : Int)) (kt : b = true → J tgt lv st iv av) (kk : b = false → J (pc + 3) lv st iv av) : J pc lv (.int (b2 b) :: st) iv av := by
  refine g_if_ne hJ hd ht (fun q => kt ?_) (fun q => kk ?_)
  · cases b
    · exact absurd rfl q
    · rfl
  · cases b
    · rfl
    · exact absurd q (by decide)
theorem g_goto (hJ : gR κ G l R cc nL J) {off : Int} {tgt : Nat} (hd : decode cc pc = .ok (.goto off, 3)) (ht : (pc : Int) + off = (tgt : Int)) (kk : J tgt lv st iv av) : J pc lv st iv av := by
  obtain ⟨p, e, s, m, args, below, meth, c, A, Q, ⟨hx, hb, hml, hown, hts, hK, hA⟩, rfl⟩ := hJ
  intro ls H locs hl hP
  exact lv_goto hx hb hd ht (kk ls H locs hl hP)
theorem gW_ob (κ : Bool) (G : gG) (iv : Nat → Int32) (av : Nat → Nat → Int32) : (gW κ G iv av)[0]? = some (G.1, .inr (cI κ, gF G.2.1 iv 0 (cTb κ))) := rfl
theorem g_getf (hJ : gR κ G l R cc nL J) {k idx : Nat} {v : Value} (hf : gFl κ k idx) (hk : k < cN κ) (hv : (gF G.2.1 iv 0 (cTb κ))[k]? = some v) (hd : decode cc pc = .ok (.getfield idx, 3)) (kk : J (pc + 3) lv (v :: st) iv av) : J pc lv (.ref G.1 :: st) iv av := by
  obtain ⟨p, e, s, m, args, below, meth, c, A, Q, ⟨hx, hb, hml, hown, hts, hK, hA⟩, rfl⟩ := hJ
  intro ls H locs hl hP
  exact va_get (ci := cI κ) (C := cR κ) (T := cF κ) (N := cN κ) (ref := cR κ) hx hb hts (cIn κ) hown hK hP.1 0 (gW_ob κ G iv av) (cl_at κ) k hk (hts _ hf) (fun _ h9 => by rw [← cF_own κ k]; exact h9) hv hd (kk ls H locs hl hP)
theorem g_geta (hJ : gR κ G l R cc nL J) {k idx n : Nat} (hf : gFl κ k idx) (hk : (cTb κ)[k]? = some (some n)) (hd : decode cc pc = .ok (.getfield idx, 3)) (kk : J (pc + 3) lv (.ref (G.2.1 k) :: st) iv av) : J pc lv (.ref G.1 :: st) iv av :=
  g_getf hJ hf (cTb_lt hk) (by rw [gF_a G.2.1 iv (cTb κ) 0 k hk, Nat.zero_add]) hd kk
theorem g_geti (hJ : gR κ G l R cc nL J) {k idx : Nat} (hf : gFl κ k idx) (hk : (cTb κ)[k]? = some none) (hd : decode cc pc = .ok (.getfield idx, 3)) (kk : J (pc + 3) lv (.int (iv k) :: st) iv av) : J pc lv (.ref G.1 :: st) iv av :=
  g_getf hJ hf (cTb_lt hk) (by rw [gF_i G.2.1 iv (cTb κ) 0 k hk, Nat.zero_add]) hd kk
theorem g_ga (hJ : gR κ G l R cc nL J) {k idx n : Nat} (hf : gFl κ k idx) (hk : (cTb κ)[k]? = some (some n)) (hd0 : decode cc pc = .ok (.aload_n 0, 1)) (hd : decode cc (pc + 1) = .ok (.getfield idx, 3)) (hg : gget 0 lv = some (.ref G.1)) (kk : J (pc + 4) lv (.ref (G.2.1 k) :: st) iv av) : J pc lv st iv av :=
  g_aload_n hJ hd0 hg (g_geta hJ hf hk hd kk)
theorem g_gi (hJ : gR κ G l R cc nL J) {k idx : Nat} (hf : gFl κ k idx) (hk : (cTb κ)[k]? = some none) (hd0 : decode cc pc = .ok (.aload_n 0, 1)) (hd : decode cc (pc + 1) = .ok (.getfield idx, 3)) (hg : gget 0 lv = some (.ref G.1)) (kk : J (pc + 4) lv (.int (iv k) :: st) iv av) : J pc lv st iv av :=
  g_aload_n hJ hd0 hg (g_geti hJ hf hk hd kk)
theorem g_put (hJ : gR κ G l R cc nL J) {k idx : Nat} {v : Int32} (hf : gFl κ k idx) (hk : (cTb κ)[k]? = some none) (hq : gPut κ k v) (hd : decode cc pc = .ok (.putfield idx, 3)) (kk : J (pc + 3) lv st (upd iv k v) av) : J pc lv (.int v :: .ref G.1 :: st) iv av := by
  obtain ⟨p, e, s, m, args, below, meth, c, A, Q, ⟨hx, hb, hml, hown, hts, hK, hA⟩, rfl⟩ := hJ
  intro ls H locs hl hP
  obtain ⟨hfin, ty, hty, hnr, hft⟩ := hq
  refine va_put (ci := cI κ) (C := cR κ) (T := cF κ) (N := cN κ) (ref := cR κ) hx hb hts (cIn κ) (cTy κ) (cTy_ok κ) (cNm_ok κ) hown hK hP.1 hP.2.1 hP.2.2 0 (gW_ob κ G iv av) (cl_at κ) k (cTb_lt hk) (hts _ hf) (fun _ h9 => by rw [← cF_own κ k]; exact h9) hfin hty hnr hft (by rw [gF_len, cTb_len]; exact cTb_lt hk) hd (fun H1 locs1 p1 d1 s1 => kk ls H1 locs1 hl ?_)
  have e : (gW κ G iv av).set 0 (G.1, .inr (cI κ, (gF G.2.1 iv 0 (cTb κ)).set k (.int v))) = gW κ G (upd iv k v) av := by
    show (G.1, (Sum.inr (cI κ, (gF G.2.1 iv 0 (cTb κ)).set k (.int v)) : va_E)) :: _ = _ :: _
    rw [gF_set G.2.1 iv v (cTb κ) 0 k hk, Nat.zero_add]
  rw [e] at p1 d1
  exact ⟨p1, d1, s1⟩
theorem gC_int {κ : Bool} {G : gG} {k : Nat} (h : k ≠ cZb κ) : (gTys G)[0]? = some (gC κ G k, .int) := by rw [gC, if_neg h]; rfl
theorem gC_bool {κ : Bool} {G : gG} {k : Nat} (h : k = cZb κ) : (gTys G)[1]? = some (gC κ G k, .boolean) := by rw [gC, if_pos h]; rfl
theorem g_iald (hJ : gR κ G l R cc nL J) {k n j : Nat} (hk : (cTb κ)[k]? = some (some n)) (hz : k ≠ cZb κ) (hj : j < n) (hd : decode cc pc = .ok (.iaload, 1)) (kk : J (pc + 1) lv (.int (av k j) :: st) iv av) : J pc lv (.int (nI j) :: .ref (G.2.1 k) :: st) iv av := by
  obtain ⟨p, e, s, m, args, below, meth, c, A, Q, ⟨hx, hb, hml, hown, hts, hK, hA⟩, rfl⟩ := hJ
  intro ls H locs hl hP
  obtain ⟨q, h1, h2⟩ := gW_ar κ G iv av hk
  have hn := cTb_small κ hk
  refine va_iald hx hb hK hP.1 q 0 h1 (gC_int hz) (vp_in_nI hj (by omega)) hd ?_
  rw [nI_clamp (by omega)]
  exact kk ls H locs hl hP
theorem g_zald (hJ : gR κ G l R cc nL J) {k n j : Nat} (hk : (cTb κ)[k]? = some (some n)) (hz : k = cZb κ) (hj : j < n) (hd : decode cc pc = .ok (.baload, 1)) (kk : J (pc + 1) lv (.int (av k j) :: st) iv av) : J pc lv (.int (nI j) :: .ref (G.2.1 k) :: st) iv av := by
  obtain ⟨p, e, s, m, args, below, meth, c, A, Q, ⟨hx, hb, hml, hown, hts, hK, hA⟩, rfl⟩ := hJ
  intro ls H locs hl hP
  obtain ⟨q, h1, h2⟩ := gW_ar κ G iv av hk
  have hn := cTb_small κ hk
  refine va_zald hx hb hK hP.1 q 1 h1 (gC_bool hz) (vp_in_nI hj (by omega)) hd ?_
  rw [nI_clamp (by omega)]
  exact kk ls H locs hl hP
theorem g_iast (hJ : gR κ G l R cc nL J) {k n j : Nat} {x : Int32} (hk : (cTb κ)[k]? = some (some n)) (hz : k ≠ cZb κ) (hj : j < n) (hd : decode cc pc = .ok (.iastore, 1)) (kk : J (pc + 1) lv st iv (up2 av k j x)) : J pc lv (.int x :: .int (nI j) :: .ref (G.2.1 k) :: st) iv av := by
  obtain ⟨p, e, s, m, args, below, meth, c, A, Q, ⟨hx, hb, hml, hown, hts, hK, hA⟩, rfl⟩ := hJ
  intro ls H locs hl hP
  obtain ⟨q, h1, h2⟩ := gW_ar κ G iv av hk
  have hn := cTb_small κ hk
  refine va_iast hx hb hK hP.1 hP.2.1 hP.2.2 q 0 h1 (gC_int hz) (vp_in_nI hj (by omega)) hd (fun H1 locs1 p1 d1 s1 => kk ls H1 locs1 hl ?_)
  rw [nI_clamp (by omega), h2] at p1 d1
  exact ⟨p1, d1, s1⟩
theorem g_zast (hJ : gR κ G l R cc nL J) {k n j : Nat} {x : Int32} (hk : (cTb κ)[k]? = some (some n)) (hz : k = cZb κ) (hj : j < n) (hx1 : vp_nar .boolean x = x) (hd : decode cc pc = .ok (.bastore, 1)) (kk : J (pc + 1) lv st iv (up2 av k j x)) : J pc lv (.int x :: .int (nI j) :: .ref (G.2.1 k) :: st) iv av := by
  obtain ⟨p, e, s, m, args, below, meth, c, A, Q, ⟨hx, hb, hml, hown, hts, hK, hA⟩, rfl⟩ := hJ
  intro ls H locs hl hP
  obtain ⟨q, h1, h2⟩ := gW_ar κ G iv av hk
  have hn := cTb_small κ hk
  refine va_zast hx hb hK hP.1 hP.2.1 hP.2.2 q 1 h1 (gC_bool hz) (vp_in_nI hj (by omega)) hd (fun H1 locs1 p1 d1 s1 => kk ls H1 locs1 hl ?_)
  rw [hx1, nI_clamp (by omega), h2] at p1 d1
  exact ⟨p1, d1, s1⟩
/-- locals that are no longer read -/
theorem g_drop (hJ : gR κ G l R cc nL J) {lv2 ex : List (Nat × Value)} (h : lv = lv2 ++ ex) (kk : J pc lv2 st iv av) : J pc lv st iv av := by
  obtain ⟨p, e, s, m, args, below, meth, c, A, Q, ⟨hx, hb, hml, hown, hts, hK, hA⟩, rfl⟩ := hJ
  subst h
  intro ls H locs hl hP
  exact kk ls H locs ⟨hl.1, hl.2.1, fun q hq => hl.2.2 q (List.mem_append_left _ hq)⟩ hP
end GR
/-! contracts -/
def gB (κ : Bool) (G : gG) (A : Nat → Prop) (u : gS) (t : State) : Prop := va_P G.2.2.2.2 classes (gW κ G u.1 u.2) t.heap ∧ gK G t ∧ va_D A (gW κ G u.1 u.2)
def gPre (κ : Bool) (G : gG) (As : List Value) (iv : Nat → Int32) (av : Nat → Nat → Int32) (sz : Nat) : Array Value → State → Prop := va_Pc (.ref G.1 :: As) (fun U => U.heap.size = sz ∧ va_P G.2.2.2.2 classes (gW κ G iv av) U.heap ∧ gK G U ∧ va_D (fun _ => True) (gW κ G iv av))
/-- a method of the object that answers an int or a boolean -/
def gM (κ : Bool) (G : gG) (l : Launch) (y : MethodName) (cc : ByteArray) (nL : Nat) (rm : Room) (rt : FieldType) (As : List Value) (iv : Nat → Int32) (av : Nat → Nat → Int32) (post : Int32 → gS → Prop) : Prop :=
  ∀ sz, Met l y (.code y cc nL (some rt) :: tW) rm (gPre κ G As iv av sz) (va_Qi post (gB κ G (va_A (gW κ G iv av) sz)) (va_A (gW κ G iv av) sz)) 0 0 (va_A (gW κ G iv av) sz)
def gMv (κ : Bool) (G : gG) (l : Launch) (y : MethodName) (cc : ByteArray) (nL : Nat) (rm : Room) (As : List Value) (iv : Nat → Int32) (av : Nat → Nat → Int32) (post : gS → Prop) : Prop :=
  ∀ sz, Met l y (.code y cc nL none :: tW) rm (gPre κ G As iv av sz) (va_Qv post (gB κ G (va_A (gW κ G iv av) sz)) (va_A (gW κ G iv av) sz)) 0 0 (va_A (gW κ G iv av) sz)
/-- a static method that reads no cell -/
def gMs (l : Launch) (y : MethodName) (cc : ByteArray) (nL : Nat) (rm : Room) (rt : FieldType) (As : List Value) (r : Int32) : Prop :=
  Met l y (.code y cc nL (some rt) :: tW) rm (fun v _ => v = As.toArray) (QcRead r) 0 0 (fun _ => False)
theorem gPre_blind (κ : Bool) (G : gG) (As : List Value) (iv : Nat → Int32) (av : Nat → Nat → Int32) (sz : Nat) : FrameBlind (gPre κ G As iv av sz) := fun a U g mk q => by
  obtain ⟨q0, q1, qP, qK, qD⟩ := q
  exact ⟨q0, q1, qP, va_K.moved (u := U) (U := U.calling g mk a) (Vm.Alike.refl U.vm) qK, qD⟩
theorem g_met {κ : Bool} {G : gG} {l : Launch} {y : MethodName} {cc : ByteArray} {nL : Nat} {rm : Room} {rt : FieldType} {As : List Value} {iv : Nat → Int32} {av : Nat → Nat → Int32} {post : Int32 → gS → Prop} (hy : y.cls = cR κ) (hn : (lg_sl (.ref G.1 :: As)).length ≤ nL)
    (body : ∀ J : gJT, gR κ G l rm cc nL J → (∀ (pc : Nat) (lv : List (Nat × Value)) (v : Int32) (iv' : Nat → Int32) (av' : Nat → Nat → Int32), decode cc pc = .ok (.ireturn, 1) → narrow rt (.int v) = .int v → post v (iv', av') → J pc lv [.int v] iv' av') → J 0 (lv_args 0 (.ref G.1 :: As)) [] iv av) : gM κ G l y cc nL rm rt As iv av post := by
  intro sz
  refine Met.ofW (cc := cc) (maxL := nL) (ret := some rt) (by rw [hy]; exact cPlain κ) rfl ?_
  intro p e s m args below meth c s₁ B hml hv
  obtain ⟨rfl, hsz, hP, hK, hD0⟩ := hv
  have hx := B.exec
  have hb := B.bytes
  have hr := B.returns
  have hts := atoms_spec (ws := .code y cc nL (some rt) :: tW) B.pre
  have hown : s.vm.findClass (cR κ) = some m.cls := by rw [← hy]; exact findClass_of_methodNamed B.named
  have hlocks := B.notSynchronized
  subst hsz
  have hD := hD0.self (sz := s.heap.size)
  have hl := lv_entry (.ref G.1 :: As) (n := nL) hn
  rw [lg_entry_eq]
  exact body (gJ κ G p l e rm s m _ below meth c nL (va_A (gW κ G iv av) s.heap.size) (MQ below (va_Qi post (gB κ G (va_A (gW κ G iv av) s.heap.size)) (va_A (gW κ G iv av) s.heap.size)) _ s 0 0 (va_A (gW κ G iv av) s.heap.size)))
    ⟨p, e, s, m, _, below, meth, c, _, _, ⟨hx, hb, hml, hown, fun w hw => hts w (List.mem_cons_of_mem _ hw), hK, fun q h => Or.inr h⟩, rfl⟩
    (fun pc lv v iv' av' hd hnar hpost ls H locs hl hP => W.zret hx hb hr hnar (fun t ht hW => ⟨⟨v, (iv', av'), rfl, hpost, by rw [ht]; exact hP.1, va_K.moved hW.alike hK, hP.2.1⟩, hP.2.2.F ht⟩) hP.2.2.2.2 hd)
    _ s.heap [] hl ⟨hP, hD, va_S.rf⟩
theorem g_metv {κ : Bool} {G : gG} {l : Launch} {y : MethodName} {cc : ByteArray} {nL : Nat} {rm : Room} {As : List Value} {iv : Nat → Int32} {av : Nat → Nat → Int32} {post : gS → Prop} (hy : y.cls = cR κ) (hn : (lg_sl (.ref G.1 :: As)).length ≤ nL)
    (body : ∀ J : gJT, gR κ G l rm cc nL J → (∀ (pc : Nat) (lv : List (Nat × Value)) (iv' : Nat → Int32) (av' : Nat → Nat → Int32), decode cc pc = .ok (.return_, 1) → post (iv', av') → J pc lv [] iv' av') → J 0 (lv_args 0 (.ref G.1 :: As)) [] iv av) : gMv κ G l y cc nL rm As iv av post := by
  intro sz
  refine Met.ofW (cc := cc) (maxL := nL) (ret := none) (by rw [hy]; exact cPlain κ) rfl ?_
  intro p e s m args below meth c s₁ B hml hv
  obtain ⟨rfl, hsz, hP, hK, hD0⟩ := hv
  have hx := B.exec
  have hb := B.bytes
  have hr := B.returns
  have hts := atoms_spec (ws := .code y cc nL none :: tW) B.pre
  have hown : s.vm.findClass (cR κ) = some m.cls := by rw [← hy]; exact findClass_of_methodNamed B.named
  have hlocks := B.notSynchronized
  subst hsz
  have hD := hD0.self (sz := s.heap.size)
  have hl := lv_entry (.ref G.1 :: As) (n := nL) hn
  rw [lg_entry_eq]
  exact body (gJ κ G p l e rm s m _ below meth c nL (va_A (gW κ G iv av) s.heap.size) (MQ below (va_Qv post (gB κ G (va_A (gW κ G iv av) s.heap.size)) (va_A (gW κ G iv av) s.heap.size)) _ s 0 0 (va_A (gW κ G iv av) s.heap.size)))
    ⟨p, e, s, m, _, below, meth, c, _, _, ⟨hx, hb, hml, hown, fun w hw => hts w (List.mem_cons_of_mem _ hw), hK, fun q h => Or.inr h⟩, rfl⟩
    (fun pc lv iv' av' hd hpost ls H locs hl hP => W.vret hx hb hr (fun t ht hW => ⟨⟨(iv', av'), rfl, hpost, by rw [ht]; exact hP.1, va_K.moved hW.alike hK, hP.2.1⟩, hP.2.2.F ht⟩) hP.2.2.2.2 hd)
    _ s.heap [] hl ⟨hP, hD, va_S.rf⟩
/-- rooms: frames and locals alone -/
def gRm (f n : Nat) : Room := { frames := f, cells := 0, slots := 0, locals := n }
section GC
variable {κ : Bool} {G : gG} {l : Launch} {R : Room} {cc : ByteArray} {nL : Nat} {J : gJT} {pc : Nat} {lv : List (Nat × Value)} {st rest : List Value} {iv : Nat → Int32} {av : Nat → Nat → Int32} {idx n nL2 f2 n2 : Nat} {y : MethodName} {cc2 : ByteArray} {rt : FieldType} {As : List Value}
theorem g_hA {κ : Bool} {G : gG} {A : Nat → Prop} {s : State} {iv : Nat → Int32} {av : Nat → Nat → Int32} {H : Heap} {locs : List Loc} (hA : ∀ q, s.heap.size ≤ q → A q) (hP : gP κ G A s iv av H locs) : ∀ q, va_A (gW κ G iv av) H.size q → A q := fun q h => by
  rcases h with ⟨k, e, hk⟩ | h
  · exact hP.2.1.2 k (q, e) hk
  · exact hA q (Nat.le_trans hP.2.2.1 h)
theorem g_call (hJ : gR κ G l R cc nL J) {post : Int32 → gS → Prop} (hk : gLk (cR κ) (cR κ) idx y cc2 nL2 (some rt) n) (hM : gM κ G l y cc2 nL2 (gRm f2 n2) rt As iv av post) (hf : f2 + 1 ≤ R.frames) (hlo : 8 + (nL2 + 11) + n2 ≤ R.locals) (hn : As.length = n) (hst : st = As.reverse ++ Value.ref G.1 :: rest) (hw : (rest.map fun v => v.category).sum ≤ 8) (hd : decode cc pc = .ok (.invokevirtual idx, 3))
    (kk : ∀ (r : Int32) (u : gS), post r u → J (pc + 3) lv (.int r :: rest) u.1 u.2) : J pc lv st iv av := by
  obtain ⟨p, e, s, m, args, below, meth, c, A, Q, ⟨hx, hb, hml, hown, hts, hK, hA⟩, rfl⟩ := hJ
  subst hst
  intro ls H locs hl hP
  obtain ⟨k1, k2, k3, k4, k5, k6, k7, k8⟩ := hk
  have hF := g_hA hA hP
  have cw : CallW R s args (cR κ) (cR κ) idx y cc2 nL2 (some rt) (.code y cc2 nL2 (some rt) :: tW) (gRm f2 n2) 0 0 n :=
    ⟨callB_of n hts (gd_cons k2) rfl rfl rfl (by rw [k1]; exact hts _ k6) (hts _ k3) ⟨by rw [k1]; exact k7.1, by rw [k1]; exact k7.2, k8⟩ ⟨hf, hlo⟩, hts _ k4, hts _ k5⟩
  refine va_calli (va_runV (As := As) (rest := rest) ⟨hx, hb, hml, hown, hts⟩ (hM H.size) cw ⟨gPre_blind κ G As iv av H.size, va_recv hK hP.1 (cl_at κ) (gW_ob κ G iv av), fun U hU hW => ⟨rfl, by rw [hU], by rw [hU]; exact hP.1, va_K.moved hW.alike hK, hP.2.1.weaken (fun _ _ _ _ => trivial)⟩⟩ rfl hn hl.1 rfl (lv_room hw) hd ⟨Nat.zero_le _, Nat.zero_le _⟩) hP.2.2 (fun q _ h => hF q h) hF (fun r u t H1 locs1 ht hvm hp hB hz1 hk1 hS => ?_)
  exact kk r u hp ls H1 locs1 hl ⟨by rw [← ht]; exact hB.1, hB.2.2.weaken (fun k q _ h => hF q.1 h), hS⟩
theorem g_callv (hJ : gR κ G l R cc nL J) {post : gS → Prop} (hk : gLk (cR κ) (cR κ) idx y cc2 nL2 none n) (hM : gMv κ G l y cc2 nL2 (gRm f2 n2) As iv av post) (hf : f2 + 1 ≤ R.frames) (hlo : 8 + (nL2 + 11) + n2 ≤ R.locals) (hn : As.length = n) (hst : st = As.reverse ++ Value.ref G.1 :: rest) (hw : (rest.map fun v => v.category).sum ≤ 8) (hd : decode cc pc = .ok (.invokevirtual idx, 3))
    (kk : ∀ u : gS, post u → J (pc + 3) lv rest u.1 u.2) : J pc lv st iv av := by
  obtain ⟨p, e, s, m, args, below, meth, c, A, Q, ⟨hx, hb, hml, hown, hts, hK, hA⟩, rfl⟩ := hJ
  subst hst
  intro ls H locs hl hP
  obtain ⟨k1, k2, k3, k4, k5, k6, k7, k8⟩ := hk
  have hF := g_hA hA hP
  have cw : CallW R s args (cR κ) (cR κ) idx y cc2 nL2 none (.code y cc2 nL2 none :: tW) (gRm f2 n2) 0 0 n :=
    ⟨callB_of n hts (gd_cons k2) rfl rfl rfl (by rw [k1]; exact hts _ k6) (hts _ k3) ⟨by rw [k1]; exact k7.1, by rw [k1]; exact k7.2, k8⟩ ⟨hf, hlo⟩, hts _ k4, hts _ k5⟩
  refine va_callv (va_runV (As := As) (rest := rest) ⟨hx, hb, hml, hown, hts⟩ (hM H.size) cw ⟨gPre_blind κ G As iv av H.size, va_recv hK hP.1 (cl_at κ) (gW_ob κ G iv av), fun U hU hW => ⟨rfl, by rw [hU], by rw [hU]; exact hP.1, va_K.moved hW.alike hK, hP.2.1.weaken (fun _ _ _ _ => trivial)⟩⟩ rfl hn hl.1 rfl (lv_room hw) hd ⟨Nat.zero_le _, Nat.zero_le _⟩) hP.2.2 (fun q _ h => hF q h) hF (fun u t H1 locs1 ht hvm hp hB hz1 hk1 hS => ?_)
  exact kk u hp ls H1 locs1 hl ⟨by rw [← ht]; exact hB.1, hB.2.2.weaken (fun k q _ h => hF q.1 h), hS⟩
theorem g_calls (hJ : gR κ G l R cc nL J) {r : Int32} (hk : gLs (cR κ) idx y cc2 nL2 (some rt) n) (hM : gMs l y cc2 nL2 (gRm f2 n2) rt As r) (hf : f2 + 1 ≤ R.frames) (hlo : 8 + (nL2 + 11) + n2 ≤ R.locals) (hn : As.length = n) (hst : st = As.reverse ++ rest) (hw : (rest.map fun v => v.category).sum ≤ 8) (hd : decode cc pc = .ok (.invokestatic idx, 3))
    (kk : J (pc + 3) lv (.int r :: rest) iv av) : J pc lv st iv av := by
  obtain ⟨p, e, s, m, args, below, meth, c, A, Q, ⟨hx, hb, hml, hown, hts, hK, hA⟩, rfl⟩ := hJ
  subst hst
  intro ls H locs hl hP
  obtain ⟨k2, k3, k4, k6, k7, k8⟩ := hk
  exact W.callR (W.runS (As := As) (rest := rest) ⟨hx, hb, hml, hown, hts⟩ hM ⟨callB_of n hts (gd_cons k2) rfl rfl rfl (hts _ k6) (hts _ k3) ⟨k7.1, k7.2, k8⟩ ⟨hf, hlo⟩, hts _ k4⟩ preEq rfl hn hl.1 rfl (lv_room hw) hd ⟨Nat.zero_le _, Nat.zero_le _⟩) (kk ls H locs hl hP)
end GC
theorem fl_X_0 : gFl false 0 7 := fw_X_0
theorem fl_X_1 : gFl false 1 13 := fw_X_1
theorem fl_X_2 : gFl false 2 16 := fw_X_2
theorem fl_X_3 : gFl false 3 19 := fw_X_3
theorem fl_X_4 : gFl false 4 22 := fw_X_4
theorem fl_X_5 : gFl false 5 25 := fw_X_5
theorem fl_X_6 : gFl false 6 28 := fw_X_6
theorem fl_X_7 : gFl false 7 31 := fw_X_7
theorem fl_X_8 : gFl false 8 34 := fw_X_8
theorem fl_X_9 : gFl false 9 38 := fw_X_9
theorem fl_X_10 : gFl false 10 41 := fw_X_10
theorem fl_X_11 : gFl false 11 44 := fw_X_11
theorem fl_X_12 : gFl false 12 47 := fw_X_12
theorem fl_X_13 : gFl false 13 50 := fw_X_13
theorem fl_X_14 : gFl false 14 53 := fw_X_14
theorem fl_X_15 : gFl false 15 56 := fw_X_15
theorem fl_X_16 : gFl false 16 59 := fw_X_16
theorem fl_X_17 : gFl false 17 62 := fw_X_17
theorem fl_X_18 : gFl false 18 65 := fw_X_18
theorem fl_X_19 : gFl false 19 68 := fw_X_19
theorem fl_X_20 : gFl false 20 88 := fw_X_20
theorem pt_X_20 (v : Int32) : gPut false 20 v := ⟨rfl, .int, by decide +kernel, rfl, rfl⟩
theorem fl_X_21 : gFl false 21 80 := fw_X_21
theorem pt_X_21 (v : Int32) : gPut false 21 v := ⟨rfl, .int, by decide +kernel, rfl, rfl⟩
theorem fl_X_22 : gFl false 22 71 := fw_X_22
theorem fl_X_23 : gFl false 23 74 := fw_X_23
theorem fl_X_24 : gFl false 24 77 := fw_X_24
theorem fl_X_25 : gFl false 25 91 := fw_X_25
theorem pt_X_25 (v : Int32) : gPut false 25 v := ⟨rfl, .int, by decide +kernel, rfl, rfl⟩
theorem fl_X_26 : gFl false 26 108 := fw_X_26
theorem pt_X_26 (v : Int32) : gPut false 26 v := ⟨rfl, .int, by decide +kernel, rfl, rfl⟩
theorem fl_X_27 : gFl false 27 130 := fw_X_27
theorem pt_X_27 (v : Int32) : gPut false 27 v := ⟨rfl, .int, by decide +kernel, rfl, rfl⟩
theorem fl_X_28 : gFl false 28 124 := fw_X_28
theorem pt_X_28 (v : Int32) : gPut false 28 v := ⟨rfl, .int, by decide +kernel, rfl, rfl⟩
theorem fl_X_29 : gFl false 29 140 := fw_X_29
theorem pt_X_29 (v : Int32) : gPut false 29 v := ⟨rfl, .int, by decide +kernel, rfl, rfl⟩
theorem fl_X_30 : gFl false 30 101 := fw_X_30
theorem pt_X_30_0 : gPut false 30 (nI 0) := ⟨rfl, .boolean, by decide +kernel, by decide +kernel, by decide +kernel⟩
theorem pt_X_30_1 : gPut false 30 (nI 1) := ⟨rfl, .boolean, by decide +kernel, by decide +kernel, by decide +kernel⟩
theorem fl_M_0 : gFl true 0 7 := fw_M_0
theorem fl_M_1 : gFl true 1 13 := fw_M_1
theorem fl_M_2 : gFl true 2 16 := fw_M_2
theorem fl_M_3 : gFl true 3 19 := fw_M_3
theorem fl_M_4 : gFl true 4 22 := fw_M_4
theorem fl_M_5 : gFl true 5 25 := fw_M_5
theorem fl_M_6 : gFl true 6 31 := fw_M_6
theorem pt_M_6 (v : Int32) : gPut true 6 v := ⟨rfl, .int, by decide +kernel, rfl, rfl⟩
theorem fl_M_7 : gFl true 7 56 := fw_M_7
theorem pt_M_7 (v : Int32) : gPut true 7 v := ⟨rfl, .int, by decide +kernel, rfl, rfl⟩
theorem fl_M_8 : gFl true 8 28 := fw_M_8
end
section
-- numbers, and what the rules say (no program in sight)
theorem nI_and {a b : Nat} (ha : a < 2 ^ 32) (hb : b < 2 ^ 32) : nI a &&& nI b = nI (a &&& b) := by
  apply Int32.toBitVec_inj.mp
  apply BitVec.eq_of_toNat_eq
  rw [Int32.toBitVec_and, BitVec.toNat_and, pk_tn ha, pk_tn hb, pk_tn (Nat.lt_of_le_of_lt Nat.and_le_left ha)]
theorem nI_or {a b : Nat} (ha : a < 2 ^ 32) (hb : b < 2 ^ 32) : nI a ||| nI b = nI (a ||| b) := by
  apply Int32.toBitVec_inj.mp
  apply BitVec.eq_of_toNat_eq
  rw [Int32.toBitVec_or, BitVec.toNat_or, pk_tn ha, pk_tn hb, pk_tn (Nat.or_lt_two_pow ha hb)]
theorem sh_ok : ∀ r, r < 32 → ((nI r &&& 31).toBitVec.smod 32).toNat = r := by decide +kernel
theorem nI_shr {x r : Nat} (hx : x < 2 ^ 31) (hr : r < 32) : nI x >>> (nI r &&& 31) = nI (x / 2 ^ r) := pk_shrN hx _ r (sh_ok r hr)
theorem nI_shl1 {r : Nat} (hr : r < 31) : nI 1 <<< (nI r &&& 31) = nI (2 ^ r) := by
  have h : 2 ^ r ≤ 2 ^ 30 := Nat.pow_le_pow_right (by decide) (by omega)
  have := pk_shlN (n := 1) (nI r &&& 31) r (sh_ok r (by omega)) (by omega)
  rw [this, Nat.one_mul]
theorem nI_and7 {w : Nat} (h : w < 2 ^ 31) : nI w &&& nI 7 = nI (w % 8) := pk_andN (by omega) 3 (by decide)
theorem nI_and1 {w : Nat} (h : w < 2 ^ 31) : nI w &&& nI 1 = nI (w % 2) := pk_andN (by omega) 1 (by decide)
theorem nI_shr3 {w : Nat} (h : w < 2 ^ 31) : nI w >>> (nI 3 &&& 31) = nI (w / 8) := nI_shr h (by decide)
/-- a number's bit, as the code asks for it -/
theorem nI_bit {x r : Nat} (hx : x < 2 ^ 31) (hr : r < 32) : (nI x >>> (nI r &&& 31)) &&& nI 1 = nI ((x.testBit r).toNat) := by
  rw [nI_shr hx hr, nI_and1 (Nat.lt_of_le_of_lt (Nat.div_le_self _ _) hx), Nat.toNat_testBit]
theorem narrow_b2 (b : Bool) : narrow .boolean (.int (b2 b)) = .int (b2 b) := by cases b <;> rfl
theorem b2_t : nI 1 = b2 true := rfl
theorem b2_f : nI 0 = b2 false := rfl
theorem b2_of {b : Bool} (h : b = true) : nI 1 = b2 b := by rw [h]; rfl
theorem b2_nof {b : Bool} (h : b = false) : nI 0 = b2 b := by rw [h]; rfl
/-! the view: 0 firsts, 1 lasts, 2 whats, 3 masks, 4 values, 5 actions, 6 arguments -/
def vX (ax : Nat → Nat → Int32) (j : Nat) : Nat → Int32 := if j < 6 then ax j else ax 19
def vM (am : Nat → Nat → Int32) (j : Nat) : Nat → Int32 := match j with
  | 0 => am 0
  | 1 => am 1
  | 2 => am 3
  | 3 => am 4
  | 4 => am 5
  | 5 => am 2
  | _ => am 8
def has (V : Nat → Nat → Int32) (r k : Nat) : Bool := decide (V 0 r ≤ nI k) && decide (nI k ≤ V 1 r)
def wN (V : Nat → Nat → Int32) (c : Nat) : Nat := (V 2 c).toNatClampNeg
def cmpS (q : Nat) (x y : Int32) : Bool := if q = 0 then true else if q = 1 then decide (x = y) else if q = 2 then decide (¬ x = y) else if q = 3 then decide (x < y) else if q = 4 then decide (x ≤ y) else if q = 5 then decide (y < x) else decide (y ≤ x)
def met (V : Nat → Nat → Int32) (c : Nat) : Bool := cmpS (wN V c % 8) (V 6 (wN V c / 8) &&& V 3 c) (V 4 c)
def hold (V : Nat → Nat → Int32) (r : Nat) : Bool := met V (2 * r) && met V (2 * r + 1)
def mt (V : Nat → Nat → Int32) (k r : Nat) : Bool := has V r k && hold V r
/-- the first i of d places from i on with p, else the end -/
def lst (p : Nat → Bool) : Nat → Nat → Nat
  | 0, i => i
  | d + 1, i => if p i = true then i else lst p d (i + 1)
/-- how many of d places from i on have p -/
def cnt (p : Nat → Bool) : Nat → Nat → Nat
  | 0, _ => 0
  | d + 1, i => (if p i = true then 1 else 0) + cnt p d (i + 1)
def vdt (V : Nat → Nat → Int32) (n : Nat) (other : Int32) (k : Nat) : Int32 := if lst (mt V k) n 0 < n then V 5 (lst (mt V k) n 0) else other
theorem lst_cg {p q : Nat → Bool} : ∀ (d i : Nat), (∀ j, i ≤ j → j < i + d → p j = q j) → lst p d i = lst q d i
  | 0, i, _ => rfl
  | d + 1, i, h => by
    show (if p i = true then i else lst p d (i + 1)) = (if q i = true then i else lst q d (i + 1))
    rw [h i (Nat.le_refl i) (by omega), lst_cg d (i + 1) (fun j h1 h2 => h j (by omega) (by omega))]
theorem cnt_cg {p q : Nat → Bool} : ∀ (d i : Nat), (∀ j, i ≤ j → j < i + d → p j = q j) → cnt p d i = cnt q d i
  | 0, i, _ => rfl
  | d + 1, i, h => by
    show (if p i = true then 1 else 0) + cnt p d (i + 1) = (if q i = true then 1 else 0) + cnt q d (i + 1)
    rw [h i (Nat.le_refl i) (by omega), cnt_cg d (i + 1) (fun j h1 h2 => h j (by omega) (by omega))]
theorem cnt_le (p : Nat → Bool) : ∀ (d i : Nat), cnt p d i ≤ d
  | 0, _ => Nat.le_refl 0
  | d + 1, i => by
    have := cnt_le p d (i + 1)
    show (if p i = true then 1 else 0) + cnt p d (i + 1) ≤ d + 1
    split <;> omega
theorem lst_le (p : Nat → Bool) : ∀ (d i : Nat), lst p d i ≤ i + d
  | 0, i => Nat.le_refl i
  | d + 1, i => by
    have := lst_le p d (i + 1)
    show (if p i = true then i else lst p d (i + 1)) ≤ i + (d + 1)
    split <;> omega
theorem lst_ge (p : Nat → Bool) : ∀ (d i : Nat), i ≤ lst p d i
  | 0, i => Nat.le_refl i
  | d + 1, i => by
    have := lst_ge p d (i + 1)
    show i ≤ (if p i = true then i else lst p d (i + 1))
    split <;> omega
theorem lst_t {p : Nat → Bool} {d i : Nat} (h : p i = true) : lst p (d + 1) i = i := if_pos h
theorem lst_f {p : Nat → Bool} {d i : Nat} (h : p i = false) : lst p (d + 1) i = lst p d (i + 1) := if_neg (by rw [h]; decide)
theorem cnt_t {p : Nat → Bool} {d i : Nat} (h : p i = true) : cnt p (d + 1) i = 1 + cnt p d (i + 1) := by
  show (if p i = true then 1 else 0) + cnt p d (i + 1) = _
  rw [if_pos h]
theorem cnt_f {p : Nat → Bool} {d i : Nat} (h : p i = false) : cnt p (d + 1) i = cnt p d (i + 1) := by
  show (if p i = true then 1 else 0) + cnt p d (i + 1) = _
  rw [if_neg (by rw [h]; decide), Nat.zero_add]
/-- what lst finds -/
theorem lst_at (p : Nat → Bool) : ∀ (d i : Nat), lst p d i < i + d → p (lst p d i) = true
  | 0, i, h => absurd h (Nat.lt_irrefl i)
  | d + 1, i, h => by
    by_cases hp : p i = true
    · rw [lst_t hp]; exact hp
    · have hp : p i = false := by simpa using hp
      rw [lst_f hp] at h ⊢
      exact lst_at p d (i + 1) (by omega)
theorem lst_no (p : Nat → Bool) : ∀ (d i j : Nat), i ≤ j → j < lst p d i → p j = false
  | 0, i, j, h1, h2 => absurd h2 (Nat.not_lt.mpr h1)
  | d + 1, i, j, h1, h2 => by
    by_cases hp : p i = true
    · rw [lst_t hp] at h2; omega
    · have hp : p i = false := by simpa using hp
      rw [lst_f hp] at h2
      by_cases hj : j = i
      · rw [hj]; exact hp
      · exact lst_no p d (i + 1) j (by omega) h2
theorem lst_is {p : Nat → Bool} {d i r : Nat} (h1 : i ≤ r) (h2 : r < i + d) (hr : p r = true) (hn : ∀ j, i ≤ j → j < r → p j = false) : lst p d i = r := by
  have ha := lst_at p d i
  have hb := lst_no p d i
  rcases Nat.lt_trichotomy (lst p d i) r with h | h | h
  · have h3 := lst_ge p d i
    have := ha (by omega)
    rw [hn _ h3 h] at this
    exact absurd this (by decide)
  · exact h
  · have := hb r h1 h
    rw [hr] at this
    exact absurd this (by decide)
theorem lst_none {p : Nat → Bool} {d i : Nat} (hn : ∀ j, i ≤ j → j < i + d → p j = false) : lst p d i = i + d := by
  have h1 := lst_le p d i
  rcases Nat.lt_or_ge (lst p d i) (i + d) with h | h
  · have := lst_at p d i h
    rw [hn _ (lst_ge p d i) h] at this
    exact absurd this (by decide)
  · omega
/-- counting from the left, one more place -/
theorem cnt_r (p : Nat → Bool) : ∀ (d i : Nat), cnt p (d + 1) i = cnt p d i + (if p (i + d) = true then 1 else 0)
  | 0, i => by
    show (if p i = true then 1 else 0) + 0 = 0 + _
    rw [Nat.add_zero, Nat.zero_add, Nat.add_zero]
  | d + 1, i => by
    have := cnt_r p d (i + 1)
    show (if p i = true then 1 else 0) + cnt p (d + 1) (i + 1) = ((if p i = true then 1 else 0) + cnt p d (i + 1)) + _
    rw [this, show i + 1 + d = i + (d + 1) by omega]
    omega
theorem cnt_add (p : Nat → Bool) : ∀ (a b i : Nat), cnt p (a + b) i = cnt p a i + cnt p b (i + a)
  | 0, b, i => by rw [Nat.zero_add]; show _ = 0 + cnt p b (i + 0); rw [Nat.add_zero, Nat.zero_add]
  | a + 1, b, i => by
    have := cnt_add p a b (i + 1)
    rw [show a + 1 + b = (a + b) + 1 by omega]
    show (if p i = true then 1 else 0) + cnt p (a + b) (i + 1) = ((if p i = true then 1 else 0) + cnt p a (i + 1)) + _
    rw [this, show i + 1 + a = i + (a + 1) by omega]
    omega
theorem cnt_all {p : Nat → Bool} : ∀ {d i : Nat}, (∀ j, i ≤ j → j < i + d → p j = true) → cnt p d i = d
  | 0, i, _ => rfl
  | d + 1, i, h => by
    rw [cnt_t (h i (Nat.le_refl i) (by omega)), cnt_all (fun j h1 h2 => h j (by omega) (by omega))]
    omega
theorem cnt_none {p : Nat → Bool} : ∀ {d i : Nat}, (∀ j, i ≤ j → j < i + d → p j = false) → cnt p d i = 0
  | 0, i, _ => rfl
  | d + 1, i, h => by
    rw [cnt_f (h i (Nat.le_refl i) (by omega)), cnt_none (fun j h1 h2 => h j (by omega) (by omega))]
end
section
-- ranges, flags, what the public questions answer (no program in sight)
def ix (x : Int32) : Nat := x.toInt.toNat
def inB (m : Nat) (x : Int32) : Bool := decide (0 ≤ x.toInt) && decide (x.toInt < (m : Int))
theorem z_toInt : (0 : Int32).toInt = 0 := by decide
theorem ix_nI {k : Nat} (h : k < 2 ^ 31) : ix (nI k) = k := by unfold ix; rw [nI_toInt h]; rfl
theorem inB_nI {m k : Nat} (h : k < 2 ^ 31) : inB m (nI k) = decide (k < m) := by
  unfold inB
  rw [nI_toInt h]
  simp
theorem inB_neg {m : Nat} {x : Int32} (h : x < 0) : inB m x = false := by
  rw [Int32.lt_iff_toInt_lt, z_toInt] at h
  unfold inB
  simp
  omega
theorem inB_le {m : Nat} {x : Int32} (hm : m < 2 ^ 31) (h0 : ¬ x < 0) (h : x ≤ nI m) : inB (m + 1) x = true := by
  rw [Int32.lt_iff_toInt_lt, z_toInt] at h0
  rw [Int32.le_iff_toInt_le, nI_toInt hm] at h
  unfold inB
  simp
  omega
theorem inB_nle {m : Nat} {x : Int32} (hm : m < 2 ^ 31) (h : ¬ x ≤ nI m) : inB (m + 1) x = false := by
  rw [Int32.le_iff_toInt_le, nI_toInt hm] at h
  unfold inB
  simp
  omega
theorem inB_ge {m : Nat} {x : Int32} (hm : m < 2 ^ 31) (h : nI m ≤ x) : inB m x = false := by
  rw [Int32.le_iff_toInt_le, nI_toInt hm] at h
  unfold inB
  simp
  omega
theorem inB_nge {m : Nat} {x : Int32} (hm : m < 2 ^ 31) (h0 : ¬ x < 0) (h : ¬ nI m ≤ x) : inB m x = true := by
  rw [Int32.lt_iff_toInt_lt, z_toInt] at h0
  rw [Int32.le_iff_toInt_le, nI_toInt hm] at h
  unfold inB
  simp
  omega
theorem inB_of {m : Nat} {x : Int32} (h : inB m x = true) : ∃ k, k < m ∧ k < 2 ^ 31 ∧ x = nI k := by
  unfold inB at h
  simp at h
  have h1 := Int32.toInt_lt x
  refine ⟨x.toInt.toNat, by omega, by omega, Int32.toInt_inj.mp ?_⟩
  rw [nI_toInt (by omega)]
  omega
theorem nb_of {m : Nat} {x : Int32} (h : (!inB m x) = false) : ∃ k, k < m ∧ k < 2 ^ 31 ∧ x = nI k := inB_of (by simpa using h)
theorem nb_not {m : Nat} {x : Int32} (h : (!inB m x) = true) : inB m x = false := by simpa using h
theorem inB_t {m k : Nat} (hk : k < m) (h : k < 2 ^ 31) : inB m (nI k) = true := by rw [inB_nI h]; simpa using hk
def anyB (p : Nat → Bool) : Nat → Bool
  | 0 => false
  | n + 1 => anyB p n || p n
theorem any_of {p : Nat → Bool} : ∀ {n j : Nat}, j < n → p j = true → anyB p n = true
  | 0, j, h, _ => absurd h (Nat.not_lt_zero j)
  | n + 1, j, h, hp => by
    show (anyB p n || p n) = true
    by_cases hj : j = n
    · rw [← hj, hp, Bool.or_true]
    · rw [any_of (n := n) (by omega) hp, Bool.true_or]
theorem any_no {p : Nat → Bool} : ∀ {n : Nat}, (∀ j, j < n → p j = false) → anyB p n = false
  | 0, _ => rfl
  | n + 1, h => by
    show (anyB p n || p n) = false
    rw [any_no (n := n) (fun j hj => h j (by omega)), h n (Nat.lt_succ_self n)]
    rfl
theorem any_at {p : Nat → Bool} : ∀ {n j : Nat}, anyB p n = false → j < n → p j = false
  | n, j, h, hj => by
    by_cases hp : p j = true
    · rw [any_of hj hp] at h; exact absurd h (by decide)
    · simpa using hp
theorem any_ex {p : Nat → Bool} : ∀ {n : Nat}, anyB p n = true → ∃ j, j < n ∧ p j = true
  | 0, h => absurd (show false = true from h) (by decide)
  | n + 1, h => by
    by_cases hp : p n = true
    · exact ⟨n, Nat.lt_succ_self n, hp⟩
    · have hp : p n = false := by simpa using hp
      have h2 : (anyB p n || p n) = true := h
      rw [hp, Bool.or_false] at h2
      obtain ⟨j, h3, h4⟩ := any_ex h2
      exact ⟨j, by omega, h4⟩
theorem any_cg {p q : Nat → Bool} : ∀ {n : Nat}, (∀ j, j < n → p j = q j) → anyB p n = anyB q n
  | 0, _ => rfl
  | n + 1, h => by
    show (anyB p n || p n) = (anyB q n || q n)
    rw [any_cg (n := n) (fun j hj => h j (by omega)), h n (Nat.lt_succ_self n)]
def RVal (n : Nat) (V : Nat → Nat → Int32) : Prop := n ≤ 12 ∧ (∀ r, r < n → ∃ a b, a < 32 ∧ b < 32 ∧ V 0 r = nI a ∧ V 1 r = nI b) ∧ (∀ c, c < 2 * n → ∃ w, w < 16 ∧ w % 8 ≠ 7 ∧ V 2 c = nI w)
theorem wN_of {V : Nat → Nat → Int32} {c w : Nat} (h : V 2 c = nI w) (hw : w < 16) : wN V c = w := by unfold wN; rw [h, nI_clamp (by omega)]
/-- a rule without conditions -/
def plV (V : Nat → Nat → Int32) (r : Nat) : Bool := decide (wN V (2 * r) % 8 = 0) && decide (wN V (2 * r + 1) % 8 = 0)
def shd (V : Nat → Nat → Int32) (pos k : Nat) : Bool := anyB (fun i => has V i k && plV V i) pos
/-- the rules that have k are not those that have k - 1 -/
def chg (V : Nat → Nat → Int32) (n k : Nat) : Bool := anyB (fun r => has V r k != has V r (k - 1)) n
def fmt (V : Nat → Nat → Int32) (n k : Nat) : Int32 := if lst (mt V k) n 0 < n then nI (lst (mt V k) n 0) else -2
-- the answers
def q_decide (V : Nat → Nat → Int32) (n : Nat) (other x : Int32) : Int32 := if inB 32 x = true then vdt V n other (ix x) else -1
def q_matched (V : Nat → Nat → Int32) (n : Nat) (x : Int32) : Int32 := if inB 32 x = true then fmt V n (ix x) else -1
def q_count (V : Nat → Nat → Int32) (n : Nat) (other a x y : Int32) : Int32 := if (inB 32 x && inB 32 y) = true then (if y < x then -2 else if inB 4 a = true then nI (cnt (fun k => decide (vdt V n other k = a)) (ix y + 1 - ix x) (ix x)) else -3) else -1
def q_next (V : Nat → Nat → Int32) (n : Nat) (other a x : Int32) : Int32 := if inB 4 a = true then (if inB 32 x = true then (if lst (fun k => decide (vdt V n other k = a)) (32 - ix x) (ix x) < 32 then nI (lst (fun k => decide (vdt V n other k = a)) (32 - ix x) (ix x)) else -3) else -2) else -1
def q_matching (V : Nat → Nat → Int32) (n : Nat) (x : Int32) : Int32 := if inB 32 x = true then nI (cnt (mt V (ix x)) n 0) else -1
def q_hidden (V : Nat → Nat → Int32) (n : Nat) (x : Int32) : Int32 := if inB n x = true then b2 (!anyB (fun k => has V (ix x) k && !shd V (ix x) k) 32) else -1
def q_stretches (V : Nat → Nat → Int32) (n : Nat) : Int32 := nI (1 + cnt (chg V n) 31 1)
def q_open (V : Nat → Nat → Int32) (n : Nat) : Int32 := nI (cnt (fun k => !anyB (fun r => has V r k) n) 32 0)
end
section
-- the reference: its small methods, and what it decides (by m1.py)
theorem g_nz {κ : Bool} {G : gG} {l : Launch} {R : Room} {cc : ByteArray} {nL : Nat} {J : gJT} {pc : Nat} {lv : List (Nat × Value)} {st : List Value} {iv : Nat → Int32} {av : Nat → Nat → Int32} (hJ : gR κ G l R cc nL J) {a : Nat} {off : Int} {tgt : Nat} (hd : decode cc pc = .ok (.ifCond .ne off, 3)) (ht : (pc : Int) + off = (tgt : Int)) (ha : a < 2 ^ 31) (kt : a ≠ 0 → J tgt lv st iv av) (kk : a = 0 → J (pc + 3) lv st iv av) : J pc lv (.int (nI a) :: st) iv av := by
  refine g_if_ne hJ hd ht (fun q => kt (fun z => q (by rw [z]; rfl))) (fun q => kk ?_)
  rcases Nat.eq_zero_or_pos a with h | h
  · exact h
  · exact absurd q (nI_ne0 h ha)
theorem g_ez {κ : Bool} {G : gG} {l : Launch} {R : Room} {cc : ByteArray} {nL : Nat} {J : gJT} {pc : Nat} {lv : List (Nat × Value)} {st : List Value} {iv : Nat → Int32} {av : Nat → Nat → Int32} (hJ : gR κ G l R cc nL J) {a : Nat} {off : Int} {tgt : Nat} (hd : decode cc pc = .ok (.ifCond .eq off, 3)) (ht : (pc : Int) + off = (tgt : Int)) (ha : a < 2 ^ 31) (kt : a = 0 → J tgt lv st iv av) (kk : a ≠ 0 → J (pc + 3) lv st iv av) : J pc lv (.int (nI a) :: st) iv av := by
  refine g_if_eq hJ hd ht (fun q => kt ?_) (fun q => kk (fun z => q (by rw [z]; rfl)))
  rcases Nat.eq_zero_or_pos a with h | h
  · exact h
  · exact absurd q (nI_ne0 h ha)
theorem has_no1 {V : Nat → Nat → Int32} {r k : Nat} (h : nI k < V 0 r) : has V r k = false := by
  unfold has
  rw [decide_eq_false (Int32.not_le.mpr h), Bool.false_and]
theorem has_no2 {V : Nat → Nat → Int32} {r k : Nat} (h : V 1 r < nI k) : has V r k = false := by
  unfold has
  rw [decide_eq_false (Int32.not_le.mpr h), Bool.and_false]
theorem has_yes {V : Nat → Nat → Int32} {r k : Nat} (h : ¬ nI k < V 0 r) (h2 : ¬ V 1 r < nI k) : has V r k = true := by
  unfold has
  rw [decide_eq_true (Int32.not_lt.mp h), decide_eq_true (Int32.not_lt.mp h2)]
  rfl
theorem cm1_t {q : Nat} {x y : Int32} (hq : q = 1) (h : x = y) : cmpS q x y = true := by
  subst hq; unfold cmpS
  (try simp only [Int32.not_le, Int32.not_lt] at h)
  simp [h]
theorem cm1_f {q : Nat} {x y : Int32} (hq : q = 1) (h : ¬ x = y) : cmpS q x y = false := by
  subst hq; unfold cmpS
  simp [h]
theorem cm2_t {q : Nat} {x y : Int32} (hq : q = 2) (h : ¬ x = y) : cmpS q x y = true := by
  subst hq; unfold cmpS
  (try simp only [Int32.not_le, Int32.not_lt] at h)
  simp [h]
theorem cm2_f {q : Nat} {x y : Int32} (hq : q = 2) (h : x = y) : cmpS q x y = false := by
  subst hq; unfold cmpS
  simp [h]
theorem cm3_t {q : Nat} {x y : Int32} (hq : q = 3) (h : ¬ y ≤ x) : cmpS q x y = true := by
  subst hq; unfold cmpS
  (try simp only [Int32.not_le, Int32.not_lt] at h)
  simp [h]
theorem cm3_f {q : Nat} {x y : Int32} (hq : q = 3) (h : y ≤ x) : cmpS q x y = false := by
  subst hq; unfold cmpS
  simp [h]
theorem cm4_t {q : Nat} {x y : Int32} (hq : q = 4) (h : ¬ y < x) : cmpS q x y = true := by
  subst hq; unfold cmpS
  (try simp only [Int32.not_le, Int32.not_lt] at h)
  simp [h]
theorem cm4_f {q : Nat} {x y : Int32} (hq : q = 4) (h : y < x) : cmpS q x y = false := by
  subst hq; unfold cmpS
  simp [h]
theorem cm5_t {q : Nat} {x y : Int32} (hq : q = 5) (h : ¬ x ≤ y) : cmpS q x y = true := by
  subst hq; unfold cmpS
  (try simp only [Int32.not_le, Int32.not_lt] at h)
  simp [h]
theorem cm5_f {q : Nat} {x y : Int32} (hq : q = 5) (h : x ≤ y) : cmpS q x y = false := by
  subst hq; unfold cmpS
  simp [h]
theorem cm6_t {q : Nat} {x y : Int32} (hq : q ≠ 0 ∧ q ≠ 1 ∧ q ≠ 2 ∧ q ≠ 3 ∧ q ≠ 4 ∧ q ≠ 5) (h : ¬ x < y) : cmpS q x y = true := by
  unfold cmpS; simp only [hq.1, hq.2.1, hq.2.2.1, hq.2.2.2.1, hq.2.2.2.2.1, hq.2.2.2.2.2, if_false]
  (try simp only [Int32.not_le, Int32.not_lt] at h)
  simp [h]
theorem cm6_f {q : Nat} {x y : Int32} (hq : q ≠ 0 ∧ q ≠ 1 ∧ q ≠ 2 ∧ q ≠ 3 ∧ q ≠ 4 ∧ q ≠ 5) (h : x < y) : cmpS q x y = false := by
  unfold cmpS; simp only [hq.1, hq.2.1, hq.2.2.1, hq.2.2.2.1, hq.2.2.2.2.1, hq.2.2.2.2.2, if_false]
  simp [h]
set_option maxHeartbeats 4000000 in
set_option maxRecDepth 100000 in
theorem c_M_badNumber (G : gG) (l : Launch) (iv : Nat → Int32) (av : Nat → Nat → Int32) (x : Int32) : gM true G l y_M_badNumber b_M_badNumber 2 (gRm 0 0) .boolean [.int x] iv av (fun r u => r = b2 (!inB 32 x) ∧ u = (iv, av)) := by
  refine g_met rfl (Nat.le_of_ble_eq_true rfl) (fun J hJ hret => ?_)
  refine g_lv (lv2 := [(0, .ref G.1), (1, .int x)]) rfl ?_
  refine g_iload_n hJ d_M_badNumber_0 rfl ?_
  refine g_if_lt hJ (tgt := 10) d_M_badNumber_1 (by decide) (fun c => ?_) (fun c => ?_)
  · refine g_iconst hJ (v := nI 1) d_M_badNumber_10 (by decide) ?_
    refine g_goto hJ (tgt := 15) d_M_badNumber_11 (by decide) ?_
    exact hret _ _ _ _ _ d_M_badNumber_15 rfl (⟨b2_of (by rw [inB_neg c]; rfl), rfl⟩)
  · refine g_iload_n hJ d_M_badNumber_4 rfl ?_
    refine g_bipush hJ (v := nI 31) d_M_badNumber_5 (by decide) ?_
    refine g_icmp_le hJ (tgt := 14) d_M_badNumber_7 (by decide) (fun c2 => ?_) (fun c2 => ?_)
    · refine g_iconst hJ (v := nI 0) d_M_badNumber_14 (by decide) ?_
      exact hret _ _ _ _ _ d_M_badNumber_15 rfl (⟨b2_nof (by rw [inB_le (by decide) c c2]; rfl), rfl⟩)
    · refine g_iconst hJ (v := nI 1) d_M_badNumber_10 (by decide) ?_
      refine g_goto hJ (tgt := 15) d_M_badNumber_11 (by decide) ?_
      exact hret _ _ _ _ _ d_M_badNumber_15 rfl (⟨b2_of (by rw [inB_nle (by decide) c2]; rfl), rfl⟩)
set_option maxHeartbeats 4000000 in
set_option maxRecDepth 100000 in
theorem c_M_badAction (G : gG) (l : Launch) (iv : Nat → Int32) (av : Nat → Nat → Int32) (x : Int32) : gM true G l y_M_badAction b_M_badAction 2 (gRm 0 0) .boolean [.int x] iv av (fun r u => r = b2 (!inB 4 x) ∧ u = (iv, av)) := by
  refine g_met rfl (Nat.le_of_ble_eq_true rfl) (fun J hJ hret => ?_)
  refine g_lv (lv2 := [(0, .ref G.1), (1, .int x)]) rfl ?_
  refine g_iload_n hJ d_M_badAction_0 rfl ?_
  refine g_if_lt hJ (tgt := 9) d_M_badAction_1 (by decide) (fun c => ?_) (fun c => ?_)
  · refine g_iconst hJ (v := nI 1) d_M_badAction_9 (by decide) ?_
    refine g_goto hJ (tgt := 14) d_M_badAction_10 (by decide) ?_
    exact hret _ _ _ _ _ d_M_badAction_14 rfl (⟨b2_of (by rw [inB_neg c]; rfl), rfl⟩)
  · refine g_iload_n hJ d_M_badAction_4 rfl ?_
    refine g_iconst hJ (v := nI 3) d_M_badAction_5 (by decide) ?_
    refine g_icmp_le hJ (tgt := 13) d_M_badAction_6 (by decide) (fun c2 => ?_) (fun c2 => ?_)
    · refine g_iconst hJ (v := nI 0) d_M_badAction_13 (by decide) ?_
      exact hret _ _ _ _ _ d_M_badAction_14 rfl (⟨b2_nof (by rw [inB_le (by decide) c c2]; rfl), rfl⟩)
    · refine g_iconst hJ (v := nI 1) d_M_badAction_9 (by decide) ?_
      refine g_goto hJ (tgt := 14) d_M_badAction_10 (by decide) ?_
      exact hret _ _ _ _ _ d_M_badAction_14 rfl (⟨b2_of (by rw [inB_nle (by decide) c2]; rfl), rfl⟩)
set_option maxHeartbeats 4000000 in
set_option maxRecDepth 100000 in
theorem c_M_badRule (G : gG) (l : Launch) (iv : Nat → Int32) (av : Nat → Nat → Int32) (n : Nat) (hn : iv 6 = nI n) (hn12 : n ≤ 12) (x : Int32) : gM true G l y_M_badRule b_M_badRule 2 (gRm 0 0) .boolean [.int x] iv av (fun r u => r = b2 (!inB n x) ∧ u = (iv, av)) := by
  refine g_met rfl (Nat.le_of_ble_eq_true rfl) (fun J hJ hret => ?_)
  refine g_lv (lv2 := [(0, .ref G.1), (1, .int x)]) rfl ?_
  refine g_iload_n hJ d_M_badRule_0 rfl ?_
  refine g_if_lt hJ (tgt := 18) d_M_badRule_1 (by decide) (fun c => ?_) (fun c => ?_)
  · refine g_iconst hJ (v := nI 1) d_M_badRule_18 (by decide) ?_
    refine g_goto hJ (tgt := 23) d_M_badRule_19 (by decide) ?_
    exact hret _ _ _ _ _ d_M_badRule_23 rfl (⟨b2_of (by rw [inB_neg c]; rfl), rfl⟩)
  · refine g_iload_n hJ d_M_badRule_4 rfl ?_
    refine g_gi hJ fl_M_6 rfl d_M_badRule_5 d_M_badRule_6 rfl ?_
    refine g_top (hn) ?_
    refine g_icmp_ge hJ (tgt := 18) d_M_badRule_9 (by decide) (fun c2 => ?_) (fun c2 => ?_)
    · refine g_iconst hJ (v := nI 1) d_M_badRule_18 (by decide) ?_
      refine g_goto hJ (tgt := 23) d_M_badRule_19 (by decide) ?_
      exact hret _ _ _ _ _ d_M_badRule_23 rfl (⟨b2_of (by rw [inB_ge (by omega) c2]; rfl), rfl⟩)
    · refine g_iload_n hJ d_M_badRule_12 rfl ?_
      refine g_bipush hJ (v := nI 12) d_M_badRule_13 (by decide) ?_
      have hi := inB_nge (m := n) (by omega) c c2
      obtain ⟨k, hk, hk31, rfl⟩ := inB_of hi
      refine g_n_lt hJ (tgt := 22) d_M_badRule_15 (by decide) (by omega) (by omega) (fun _ => ?_) (fun q => absurd q (by omega))
      refine g_iconst hJ (v := nI 0) d_M_badRule_22 (by decide) ?_
      exact hret _ _ _ _ _ d_M_badRule_23 rfl (⟨b2_nof (by rw [hi]; rfl), rfl⟩)
set_option maxHeartbeats 4000000 in
set_option maxRecDepth 100000 in
theorem c_M_has (G : gG) (l : Launch) (iv : Nat → Int32) (av : Nat → Nat → Int32) (r0 k : Nat) (hr : r0 < 14) : gM true G l y_M_has b_M_has 3 (gRm 0 0) .boolean [.int (nI r0), .int (nI k)] iv av (fun r u => r = b2 (has (vM av) r0 k) ∧ u = (iv, av)) := by
  refine g_met rfl (Nat.le_of_ble_eq_true rfl) (fun J hJ hret => ?_)
  refine g_lv (lv2 := [(0, .ref G.1), (1, .int (nI r0)), (2, .int (nI k))]) rfl ?_
  refine g_ga hJ fl_M_0 (n := 14) rfl d_M_has_0 d_M_has_1 rfl ?_
  refine g_iload_n hJ d_M_has_4 rfl ?_
  refine g_iald hJ (k := 0) (n := 14) rfl (by decide) (by omega) d_M_has_5 ?_
  refine g_iload_n hJ d_M_has_6 rfl ?_
  refine g_icmp_gt hJ (tgt := 24) d_M_has_7 (by decide) (fun c => ?_) (fun c => ?_)
  · refine g_iconst hJ (v := nI 0) d_M_has_24 (by decide) ?_
    exact hret _ _ _ _ _ d_M_has_25 rfl (⟨b2_nof (has_no1 c), rfl⟩)
  · refine g_iload_n hJ d_M_has_10 rfl ?_
    refine g_ga hJ fl_M_1 (n := 14) rfl d_M_has_11 d_M_has_12 rfl ?_
    refine g_iload_n hJ d_M_has_15 rfl ?_
    refine g_iald hJ (k := 1) (n := 14) rfl (by decide) (by omega) d_M_has_16 ?_
    refine g_icmp_gt hJ (tgt := 24) d_M_has_17 (by decide) (fun c2 => ?_) (fun c2 => ?_)
    · refine g_iconst hJ (v := nI 0) d_M_has_24 (by decide) ?_
      exact hret _ _ _ _ _ d_M_has_25 rfl (⟨b2_nof (has_no2 c2), rfl⟩)
    · refine g_iconst hJ (v := nI 1) d_M_has_20 (by decide) ?_
      refine g_goto hJ (tgt := 25) d_M_has_21 (by decide) ?_
      exact hret _ _ _ _ _ d_M_has_25 rfl (⟨b2_of (has_yes c c2), rfl⟩)
set_option maxHeartbeats 4000000 in
set_option maxRecDepth 100000 in
theorem c_M_met (G : gG) (l : Launch) (iv : Nat → Int32) (av : Nat → Nat → Int32) (c w : Nat) (hc : c < 28) (hw : w < 16) (hwc : av 3 c = nI w) : gM true G l y_M_met b_M_met 5 (gRm 0 0) .boolean [.int (nI c)] iv av (fun r u => r = b2 (met (vM av) c) ∧ u = (iv, av)) := by
  refine g_met rfl (Nat.le_of_ble_eq_true rfl) (fun J hJ hret => ?_)
  refine g_lv (lv2 := [(0, .ref G.1), (1, .int (nI c))]) rfl ?_
  have hN : wN (vM av) c = w := wN_of hwc hw
  refine g_ga hJ fl_M_3 (n := 28) rfl d_M_met_0 d_M_met_1 rfl ?_
  refine g_iload_n hJ d_M_met_4 rfl ?_
  refine g_iald hJ (k := 3) (n := 28) rfl (by decide) (by omega) d_M_met_5 ?_
  refine g_top (hwc) ?_
  refine g_bipush hJ (v := nI 8) d_M_met_6 (by decide) ?_
  refine g_iremn hJ d_M_met_8 (by omega) (by decide) (by decide) ?_
  refine g_istore_n hJ (lv2 := [(0, .ref G.1), (1, .int (nI c)), (2, .int (nI (w % 8)))]) d_M_met_9 (by decide) rfl rfl ?_
  refine g_iload_n hJ d_M_met_10 rfl ?_
  refine g_nz hJ (tgt := 16) d_M_met_11 (by decide) (by omega) (fun c0 => ?_) (fun c0 => ?_)
  · have hw8 : w / 8 % 2 = w / 8 := by omega
    refine g_ga hJ fl_M_8 (n := 2) rfl d_M_met_16 d_M_met_17 rfl ?_
    refine g_ga hJ fl_M_3 (n := 28) rfl d_M_met_20 d_M_met_21 rfl ?_
    refine g_iload_n hJ d_M_met_24 rfl ?_
    refine g_iald hJ (k := 3) (n := 28) rfl (by decide) (by omega) d_M_met_25 ?_
    refine g_top (hwc) ?_
    refine g_bipush hJ (v := nI 8) d_M_met_26 (by decide) ?_
    refine g_idivn hJ d_M_met_28 (by omega) (by decide) (by decide) ?_
    refine g_iconst hJ (v := nI 1) d_M_met_29 (by decide) ?_
    refine g_iand hJ d_M_met_30 ?_
    refine g_top (nI_and1 (by omega)) ?_
    rw [hw8]
    refine g_iald hJ (k := 8) (n := 2) rfl (by decide) (by omega) d_M_met_31 ?_
    refine g_ga hJ fl_M_4 (n := 28) rfl d_M_met_32 d_M_met_33 rfl ?_
    refine g_iload_n hJ d_M_met_36 rfl ?_
    refine g_iald hJ (k := 4) (n := 28) rfl (by decide) (by omega) d_M_met_37 ?_
    refine g_iand hJ d_M_met_38 ?_
    refine g_istore_n hJ (lv2 := [(0, .ref G.1), (1, .int (nI c)), (2, .int (nI (w % 8))), (3, .int ((av 8 (w / 8)) &&& (av 4 c)))]) d_M_met_39 (by decide) rfl rfl ?_
    refine g_ga hJ fl_M_5 (n := 28) rfl d_M_met_40 d_M_met_41 rfl ?_
    refine g_iload_n hJ d_M_met_44 rfl ?_
    refine g_iald hJ (k := 5) (n := 28) rfl (by decide) (by omega) d_M_met_45 ?_
    refine g_istore hJ (lv2 := [(0, .ref G.1), (1, .int (nI c)), (2, .int (nI (w % 8))), (3, .int ((av 8 (w / 8)) &&& (av 4 c))), (4, .int (av 5 c))]) d_M_met_46 (by decide) rfl rfl ?_
    refine g_iload_n hJ d_M_met_48 rfl ?_
    refine g_iconst hJ (v := nI 1) d_M_met_49 (by decide) ?_
    refine g_n_ne hJ (tgt := 65) d_M_met_50 (by decide) (by omega) (by decide) (fun q1 => ?_) (fun q1 => ?_)
    rotate_left
    · refine g_iload_n hJ d_M_met_53 rfl ?_
      refine g_iload hJ d_M_met_54 rfl ?_
      refine g_icmp_ne hJ (tgt := 63) d_M_met_56 (by decide) (fun e => ?_) (fun e => ?_)
      · refine g_iconst hJ (v := nI 0) d_M_met_63 (by decide) ?_
        exact hret _ _ _ _ _ d_M_met_64 rfl (⟨b2_nof (by unfold met; rw [hN]; exact cm1_f q1 e), rfl⟩)
      · refine g_iconst hJ (v := nI 1) d_M_met_59 (by decide) ?_
        refine g_goto hJ (tgt := 64) d_M_met_60 (by decide) ?_
        exact hret _ _ _ _ _ d_M_met_64 rfl (⟨b2_of (by unfold met; rw [hN]; exact cm1_t q1 e), rfl⟩)
    refine g_iload_n hJ d_M_met_65 rfl ?_
    refine g_iconst hJ (v := nI 2) d_M_met_66 (by decide) ?_
    refine g_n_ne hJ (tgt := 82) d_M_met_67 (by decide) (by omega) (by decide) (fun q2 => ?_) (fun q2 => ?_)
    rotate_left
    · refine g_iload_n hJ d_M_met_70 rfl ?_
      refine g_iload hJ d_M_met_71 rfl ?_
      refine g_icmp_eq hJ (tgt := 80) d_M_met_73 (by decide) (fun e => ?_) (fun e => ?_)
      · refine g_iconst hJ (v := nI 0) d_M_met_80 (by decide) ?_
        exact hret _ _ _ _ _ d_M_met_81 rfl (⟨b2_nof (by unfold met; rw [hN]; exact cm2_f q2 e), rfl⟩)
      · refine g_iconst hJ (v := nI 1) d_M_met_76 (by decide) ?_
        refine g_goto hJ (tgt := 81) d_M_met_77 (by decide) ?_
        exact hret _ _ _ _ _ d_M_met_81 rfl (⟨b2_of (by unfold met; rw [hN]; exact cm2_t q2 e), rfl⟩)
    refine g_iload_n hJ d_M_met_82 rfl ?_
    refine g_iconst hJ (v := nI 3) d_M_met_83 (by decide) ?_
    refine g_n_ne hJ (tgt := 99) d_M_met_84 (by decide) (by omega) (by decide) (fun q3 => ?_) (fun q3 => ?_)
    rotate_left
    · refine g_iload_n hJ d_M_met_87 rfl ?_
      refine g_iload hJ d_M_met_88 rfl ?_
      refine g_icmp_ge hJ (tgt := 97) d_M_met_90 (by decide) (fun e => ?_) (fun e => ?_)
      · refine g_iconst hJ (v := nI 0) d_M_met_97 (by decide) ?_
        exact hret _ _ _ _ _ d_M_met_98 rfl (⟨b2_nof (by unfold met; rw [hN]; exact cm3_f q3 e), rfl⟩)
      · refine g_iconst hJ (v := nI 1) d_M_met_93 (by decide) ?_
        refine g_goto hJ (tgt := 98) d_M_met_94 (by decide) ?_
        exact hret _ _ _ _ _ d_M_met_98 rfl (⟨b2_of (by unfold met; rw [hN]; exact cm3_t q3 e), rfl⟩)
    refine g_iload_n hJ d_M_met_99 rfl ?_
    refine g_iconst hJ (v := nI 4) d_M_met_100 (by decide) ?_
    refine g_n_ne hJ (tgt := 116) d_M_met_101 (by decide) (by omega) (by decide) (fun q4 => ?_) (fun q4 => ?_)
    rotate_left
    · refine g_iload_n hJ d_M_met_104 rfl ?_
      refine g_iload hJ d_M_met_105 rfl ?_
      refine g_icmp_gt hJ (tgt := 114) d_M_met_107 (by decide) (fun e => ?_) (fun e => ?_)
      · refine g_iconst hJ (v := nI 0) d_M_met_114 (by decide) ?_
        exact hret _ _ _ _ _ d_M_met_115 rfl (⟨b2_nof (by unfold met; rw [hN]; exact cm4_f q4 e), rfl⟩)
      · refine g_iconst hJ (v := nI 1) d_M_met_110 (by decide) ?_
        refine g_goto hJ (tgt := 115) d_M_met_111 (by decide) ?_
        exact hret _ _ _ _ _ d_M_met_115 rfl (⟨b2_of (by unfold met; rw [hN]; exact cm4_t q4 e), rfl⟩)
    refine g_iload_n hJ d_M_met_116 rfl ?_
    refine g_iconst hJ (v := nI 5) d_M_met_117 (by decide) ?_
    refine g_n_ne hJ (tgt := 133) d_M_met_118 (by decide) (by omega) (by decide) (fun q5 => ?_) (fun q5 => ?_)
    rotate_left
    · refine g_iload_n hJ d_M_met_121 rfl ?_
      refine g_iload hJ d_M_met_122 rfl ?_
      refine g_icmp_le hJ (tgt := 131) d_M_met_124 (by decide) (fun e => ?_) (fun e => ?_)
      · refine g_iconst hJ (v := nI 0) d_M_met_131 (by decide) ?_
        exact hret _ _ _ _ _ d_M_met_132 rfl (⟨b2_nof (by unfold met; rw [hN]; exact cm5_f q5 e), rfl⟩)
      · refine g_iconst hJ (v := nI 1) d_M_met_127 (by decide) ?_
        refine g_goto hJ (tgt := 132) d_M_met_128 (by decide) ?_
        exact hret _ _ _ _ _ d_M_met_132 rfl (⟨b2_of (by unfold met; rw [hN]; exact cm5_t q5 e), rfl⟩)
    refine g_iload_n hJ d_M_met_133 rfl ?_
    refine g_iload hJ d_M_met_134 rfl ?_
    refine g_icmp_lt hJ (tgt := 143) d_M_met_136 (by decide) (fun e => ?_) (fun e => ?_)
    · refine g_iconst hJ (v := nI 0) d_M_met_143 (by decide) ?_
      exact hret _ _ _ _ _ d_M_met_144 rfl (⟨b2_nof (by unfold met; rw [hN]; exact cm6_f (by omega) e), rfl⟩)
    · refine g_iconst hJ (v := nI 1) d_M_met_139 (by decide) ?_
      refine g_goto hJ (tgt := 144) d_M_met_140 (by decide) ?_
      exact hret _ _ _ _ _ d_M_met_144 rfl (⟨b2_of (by unfold met; rw [hN]; exact cm6_t (by omega) e), rfl⟩)
  · refine g_iconst hJ (v := nI 1) d_M_met_14 (by decide) ?_
    exact hret _ _ _ _ _ d_M_met_15 rfl (⟨b2_of (by unfold met; rw [hN, c0]; rfl), rfl⟩)
set_option maxHeartbeats 4000000 in
set_option maxRecDepth 100000 in
theorem c_M_matches (G : gG) (l : Launch) (iv : Nat → Int32) (av : Nat → Nat → Int32) (n r0 k : Nat) (hV : RVal n (vM av)) (hr : r0 < n) : gM true G l y_M_matches b_M_matches 3 (gRm 1 24) .boolean [.int (nI r0), .int (nI k)] iv av (fun r u => r = b2 (mt (vM av) k r0) ∧ u = (iv, av)) := by
  refine g_met rfl (Nat.le_of_ble_eq_true rfl) (fun J hJ hret => ?_)
  refine g_lv (lv2 := [(0, .ref G.1), (1, .int (nI r0)), (2, .int (nI k))]) rfl ?_
  obtain ⟨hn12, -, hV2⟩ := hV
  obtain ⟨w0, h01, h02, h03⟩ := hV2 (2 * r0) (by omega)
  obtain ⟨w1, h11, h12, h13⟩ := hV2 (2 * r0 + 1) (by omega)
  refine g_aload_n hJ d_M_matches_0 rfl ?_
  refine g_iload_n hJ d_M_matches_1 rfl ?_
  refine g_iload_n hJ d_M_matches_2 rfl ?_
  refine g_call hJ k_M_M_has (c_M_has G l iv av r0 k (by omega)) (by decide) (by decide) rfl (rest := []) rfl (Nat.le_of_ble_eq_true rfl) d_M_matches_3 (fun r u hu => ?_)
  obtain ⟨rfl, rfl⟩ := hu
  dsimp only
  refine g_beq hJ (tgt := 35) d_M_matches_6 (by decide) (fun c => ?_) (fun c => ?_)
  · refine g_iconst hJ (v := nI 0) d_M_matches_35 (by decide) ?_
    exact hret _ _ _ _ _ d_M_matches_36 rfl (⟨b2_nof (by unfold mt; rw [c]; rfl), rfl⟩)
  · refine g_aload_n hJ d_M_matches_9 rfl ?_
    refine g_iconst hJ (v := nI 2) d_M_matches_10 (by decide) ?_
    refine g_iload_n hJ d_M_matches_11 rfl ?_
    refine g_imuln hJ d_M_matches_12 ?_
    refine g_call hJ k_M_M_met (c_M_met G l iv av (2 * r0) w0 (by omega) h01 h03) (by decide) (by decide) rfl (rest := []) rfl (Nat.le_of_ble_eq_true rfl) d_M_matches_13 (fun r u hu => ?_)
    obtain ⟨rfl, rfl⟩ := hu
    dsimp only
    refine g_beq hJ (tgt := 35) d_M_matches_16 (by decide) (fun c2 => ?_) (fun c2 => ?_)
    · refine g_iconst hJ (v := nI 0) d_M_matches_35 (by decide) ?_
      exact hret _ _ _ _ _ d_M_matches_36 rfl (⟨b2_nof (by unfold mt hold; rw [c2, Bool.false_and, Bool.and_false]), rfl⟩)
    · refine g_aload_n hJ d_M_matches_19 rfl ?_
      refine g_iconst hJ (v := nI 2) d_M_matches_20 (by decide) ?_
      refine g_iload_n hJ d_M_matches_21 rfl ?_
      refine g_imuln hJ d_M_matches_22 ?_
      refine g_iconst hJ (v := nI 1) d_M_matches_23 (by decide) ?_
      refine g_iaddn hJ d_M_matches_24 ?_
      refine g_call hJ k_M_M_met (c_M_met G l iv av (2 * r0 + 1) w1 (by omega) h11 h13) (by decide) (by decide) rfl (rest := []) rfl (Nat.le_of_ble_eq_true rfl) d_M_matches_25 (fun r u hu => ?_)
      obtain ⟨rfl, rfl⟩ := hu
      dsimp only
      refine g_beq hJ (tgt := 35) d_M_matches_28 (by decide) (fun c3 => ?_) (fun c3 => ?_)
      · refine g_iconst hJ (v := nI 0) d_M_matches_35 (by decide) ?_
        exact hret _ _ _ _ _ d_M_matches_36 rfl (⟨b2_nof (by unfold mt hold; rw [c3, Bool.and_false, Bool.and_false]), rfl⟩)
      · refine g_iconst hJ (v := nI 1) d_M_matches_31 (by decide) ?_
        refine g_goto hJ (tgt := 36) d_M_matches_32 (by decide) ?_
        exact hret _ _ _ _ _ d_M_matches_36 rfl (⟨b2_of (by unfold mt hold; rw [c, c2, c3]; rfl), rfl⟩)
set_option maxHeartbeats 4000000 in
set_option maxRecDepth 100000 in
theorem l_M_firstMatch {G : gG} {l : Launch} {J : gJT} {post : Int32 → gS → Prop} {iv : Nat → Int32} {av : Nat → Nat → Int32} {n k : Nat} (hJ : gR true G l (gRm 2 46) b_M_firstMatch 3 J) (hret : ∀ (pc : Nat) (lv : List (Nat × Value)) (v : Int32) (iv2 : Nat → Int32) (av2 : Nat → Nat → Int32), decode b_M_firstMatch pc = .ok (.ireturn, 1) → narrow .int (.int v) = .int v → post v (iv2, av2) → J pc lv [.int v] iv2 av2) (hn : iv 6 = nI n) (hV : RVal n (vM av)) (hp : ∀ v, v = fmt (vM av) n k → post v (iv, av)) :
    ∀ (d i : Nat), i + d = n → lst (mt (vM av) k) n 0 = lst (mt (vM av) k) d i → J 2 [(0, .ref G.1), (1, .int (nI k)), (2, .int (nI i))] [] iv av := by
  have hn12 := hV.1
  intro d
  induction d with
  | zero =>
    intro i hi hl
    refine g_iload_n hJ d_M_firstMatch_2 rfl ?_
    refine g_gi hJ fl_M_6 rfl d_M_firstMatch_3 d_M_firstMatch_4 rfl ?_
    refine g_top (hn) ?_
    refine g_n_ge hJ (tgt := 33) d_M_firstMatch_7 (by decide) (by omega) (by omega) (fun _ => ?_) (fun q => absurd q (by omega))
    refine g_bipush hJ (v := -2) d_M_firstMatch_33 (by decide) ?_
    exact hret _ _ _ _ _ d_M_firstMatch_35 rfl (hp _ (by unfold fmt; rw [hl, if_neg (by show ¬ i < n; omega)]))
  | succ d ih =>
    intro i hi hl
    refine g_iload_n hJ d_M_firstMatch_2 rfl ?_
    refine g_gi hJ fl_M_6 rfl d_M_firstMatch_3 d_M_firstMatch_4 rfl ?_
    refine g_top (hn) ?_
    refine g_n_ge hJ (tgt := 33) d_M_firstMatch_7 (by decide) (by omega) (by omega) (fun q => absurd q (by omega)) (fun _ => ?_)
    refine g_iload_n hJ d_M_firstMatch_10 rfl ?_
    refine g_bipush hJ (v := nI 12) d_M_firstMatch_11 (by decide) ?_
    refine g_n_ge hJ (tgt := 33) d_M_firstMatch_13 (by decide) (by omega) (by omega) (fun q => absurd q (by omega)) (fun _ => ?_)
    refine g_aload_n hJ d_M_firstMatch_16 rfl ?_
    refine g_iload_n hJ d_M_firstMatch_17 rfl ?_
    refine g_iload_n hJ d_M_firstMatch_18 rfl ?_
    refine g_call hJ k_M_M_matches (c_M_matches G l iv av n i k hV (by omega)) (by decide) (by decide) rfl (rest := []) rfl (Nat.le_of_ble_eq_true rfl) d_M_firstMatch_19 (fun r u hu => ?_)
    obtain ⟨rfl, rfl⟩ := hu
    dsimp only
    refine g_beq hJ (tgt := 27) d_M_firstMatch_22 (by decide) (fun c => ?_) (fun c => ?_)
    · refine g_inc hJ (lv2 := [(0, .ref G.1), (1, .int (nI k)), (2, .int (nI (i + 1)))]) d_M_firstMatch_27 rfl (by decide) rfl rfl ?_
      refine g_goto hJ (tgt := 2) d_M_firstMatch_30 (by decide) ?_
      exact ih (i + 1) (by omega) (hl.trans (lst_f c))
    · refine g_iload_n hJ d_M_firstMatch_25 rfl ?_
      exact hret _ _ _ _ _ d_M_firstMatch_26 rfl (hp _ (by unfold fmt; rw [hl, lst_t c, if_pos (by omega)]))
set_option maxHeartbeats 4000000 in
set_option maxRecDepth 100000 in
theorem c_M_firstMatch (G : gG) (l : Launch) (iv : Nat → Int32) (av : Nat → Nat → Int32) (n : Nat) (hn : iv 6 = nI n) (hV : RVal n (vM av)) (k : Nat) : gM true G l y_M_firstMatch b_M_firstMatch 3 (gRm 2 46) .int [.int (nI k)] iv av (fun r u => r = fmt (vM av) n k ∧ u = (iv, av)) := by
  refine g_met rfl (Nat.le_of_ble_eq_true rfl) (fun J hJ hret => ?_)
  refine g_lv (lv2 := [(0, .ref G.1), (1, .int (nI k))]) rfl ?_
  refine g_iconst hJ (v := nI 0) d_M_firstMatch_0 (by decide) ?_
  refine g_istore_n hJ (lv2 := [(0, .ref G.1), (1, .int (nI k)), (2, .int (nI 0))]) d_M_firstMatch_1 (by decide) rfl rfl ?_
  exact l_M_firstMatch (post := fun r u => r = fmt (vM av) n k ∧ u = (iv, av)) hJ hret hn hV (fun v h => ⟨h, rfl⟩) n 0 (by omega) rfl
set_option maxHeartbeats 4000000 in
set_option maxRecDepth 100000 in
theorem c_M_verdict (G : gG) (l : Launch) (iv : Nat → Int32) (av : Nat → Nat → Int32) (n : Nat) (hn : iv 6 = nI n) (hV : RVal n (vM av)) (k : Nat) : gM true G l y_M_verdict b_M_verdict 3 (gRm 3 68) .int [.int (nI k)] iv av (fun r u => r = vdt (vM av) n (iv 7) k ∧ u = (iv, av)) := by
  refine g_met rfl (Nat.le_of_ble_eq_true rfl) (fun J hJ hret => ?_)
  refine g_lv (lv2 := [(0, .ref G.1), (1, .int (nI k))]) rfl ?_
  have hn12 := hV.1
  refine g_aload_n hJ d_M_verdict_0 rfl ?_
  refine g_iload_n hJ d_M_verdict_1 rfl ?_
  refine g_call hJ k_M_M_firstMatch (c_M_firstMatch G l iv av n hn hV k) (by decide) (by decide) rfl (rest := []) rfl (Nat.le_of_ble_eq_true rfl) d_M_verdict_2 (fun r u hu => ?_)
  obtain ⟨rfl, rfl⟩ := hu
  dsimp only
  by_cases hf : lst (mt (vM av) k) n 0 < n
  · refine g_top (show fmt (vM av) n k = nI (lst (mt (vM av) k) n 0) from if_pos hf) ?_
    refine g_istore_n hJ (lv2 := [(0, .ref G.1), (1, .int (nI k)), (2, .int (nI (lst (mt (vM av) k) n 0)))]) d_M_verdict_5 (by decide) rfl rfl ?_
    refine g_iload_n hJ d_M_verdict_6 rfl ?_
    refine g_if_ge hJ (tgt := 17) d_M_verdict_7 (by decide) (fun _ => ?_) (fun q => absurd q (by intro z; exact z (nI_pos' (by omega))))
    refine g_ga hJ fl_M_2 (n := 14) rfl d_M_verdict_17 d_M_verdict_18 rfl ?_
    refine g_iload_n hJ d_M_verdict_21 rfl ?_
    refine g_iald hJ (k := 2) (n := 14) rfl (by decide) (by omega) d_M_verdict_22 ?_
    exact hret _ _ _ _ _ d_M_verdict_23 rfl (⟨by unfold vdt; rw [if_pos hf]; rfl, rfl⟩)
  · refine g_top (show fmt (vM av) n k = -2 from if_neg hf) ?_
    refine g_istore_n hJ (lv2 := [(0, .ref G.1), (1, .int (nI k)), (2, .int (-2))]) d_M_verdict_5 (by decide) rfl rfl ?_
    refine g_iload_n hJ d_M_verdict_6 rfl ?_
    refine g_if_ge hJ (tgt := 17) d_M_verdict_7 (by decide) (fun q => absurd q (by decide)) (fun _ => ?_)
    refine g_gi hJ fl_M_7 rfl d_M_verdict_10 d_M_verdict_11 rfl ?_
    refine g_goto hJ (tgt := 23) d_M_verdict_14 (by decide) ?_
    exact hret _ _ _ _ _ d_M_verdict_23 rfl (⟨by unfold vdt; rw [if_neg hf], rfl⟩)
set_option maxHeartbeats 4000000 in
set_option maxRecDepth 100000 in
theorem c_M_decide (G : gG) (l : Launch) (iv : Nat → Int32) (av : Nat → Nat → Int32) (n : Nat) (hn : iv 6 = nI n) (hV : RVal n (vM av)) (x : Int32) : gM true G l y_M_decide b_M_decide 2 (gRm 4 90) .int [.int x] iv av (fun r u => r = q_decide (vM av) n (iv 7) x ∧ u = (iv, av)) := by
  refine g_met rfl (Nat.le_of_ble_eq_true rfl) (fun J hJ hret => ?_)
  refine g_lv (lv2 := [(0, .ref G.1), (1, .int x)]) rfl ?_
  refine g_aload_n hJ d_M_decide_0 rfl ?_
  refine g_iload_n hJ d_M_decide_1 rfl ?_
  refine g_call hJ k_M_M_badNumber (c_M_badNumber G l iv av x) (by decide) (by decide) rfl (rest := []) rfl (Nat.le_of_ble_eq_true rfl) d_M_decide_2 (fun r u hu => ?_)
  obtain ⟨rfl, rfl⟩ := hu
  dsimp only
  refine g_beq hJ (tgt := 12) d_M_decide_5 (by decide) (fun c => ?_) (fun c => ?_)
  · obtain ⟨k, hk, hk31, rfl⟩ := nb_of c
    refine g_aload_n hJ d_M_decide_12 rfl ?_
    refine g_iload_n hJ d_M_decide_13 rfl ?_
    refine g_call hJ k_M_M_verdict (c_M_verdict G l iv av n hn hV k) (by decide) (by decide) rfl (rest := []) rfl (Nat.le_of_ble_eq_true rfl) d_M_decide_14 (fun r u hu => ?_)
    obtain ⟨rfl, rfl⟩ := hu
    dsimp only
    exact hret _ _ _ _ _ d_M_decide_17 rfl (⟨by unfold q_decide; rw [inB_t hk hk31, if_pos rfl, ix_nI hk31], rfl⟩)
  · refine g_iconst hJ (v := -1) d_M_decide_8 (by decide) ?_
    refine g_goto hJ (tgt := 17) d_M_decide_9 (by decide) ?_
    exact hret _ _ _ _ _ d_M_decide_17 rfl (⟨by unfold q_decide; rw [nb_not c]; rfl, rfl⟩)
set_option maxHeartbeats 4000000 in
set_option maxRecDepth 100000 in
theorem c_M_matched (G : gG) (l : Launch) (iv : Nat → Int32) (av : Nat → Nat → Int32) (n : Nat) (hn : iv 6 = nI n) (hV : RVal n (vM av)) (x : Int32) : gM true G l y_M_matched b_M_matched 2 (gRm 3 68) .int [.int x] iv av (fun r u => r = q_matched (vM av) n x ∧ u = (iv, av)) := by
  refine g_met rfl (Nat.le_of_ble_eq_true rfl) (fun J hJ hret => ?_)
  refine g_lv (lv2 := [(0, .ref G.1), (1, .int x)]) rfl ?_
  refine g_aload_n hJ d_M_matched_0 rfl ?_
  refine g_iload_n hJ d_M_matched_1 rfl ?_
  refine g_call hJ k_M_M_badNumber (c_M_badNumber G l iv av x) (by decide) (by decide) rfl (rest := []) rfl (Nat.le_of_ble_eq_true rfl) d_M_matched_2 (fun r u hu => ?_)
  obtain ⟨rfl, rfl⟩ := hu
  dsimp only
  refine g_beq hJ (tgt := 12) d_M_matched_5 (by decide) (fun c => ?_) (fun c => ?_)
  · obtain ⟨k, hk, hk31, rfl⟩ := nb_of c
    refine g_aload_n hJ d_M_matched_12 rfl ?_
    refine g_iload_n hJ d_M_matched_13 rfl ?_
    refine g_call hJ k_M_M_firstMatch (c_M_firstMatch G l iv av n hn hV k) (by decide) (by decide) rfl (rest := []) rfl (Nat.le_of_ble_eq_true rfl) d_M_matched_14 (fun r u hu => ?_)
    obtain ⟨rfl, rfl⟩ := hu
    dsimp only
    exact hret _ _ _ _ _ d_M_matched_17 rfl (⟨by unfold q_matched; rw [inB_t hk hk31, if_pos rfl, ix_nI hk31], rfl⟩)
  · refine g_iconst hJ (v := -1) d_M_matched_8 (by decide) ?_
    refine g_goto hJ (tgt := 17) d_M_matched_9 (by decide) ?_
    exact hret _ _ _ _ _ d_M_matched_17 rfl (⟨by unfold q_matched; rw [nb_not c]; rfl, rfl⟩)
end
section
-- the reference: its questions (by m2.py)
theorem b2_inj {a b : Bool} (h : b2 a = b2 b) : a = b := by
  cases a <;> cases b <;> first | rfl | exact absurd h (by decide)
theorem has_nat {V : Nat → Nat → Int32} {r a b j : Nat} (ea : V 0 r = nI a) (eb : V 1 r = nI b) (ha : a < 32) (hb : b < 32) (hj : j < 32) : has V r j = (decide (a ≤ j) && decide (j ≤ b)) := by
  unfold has
  rw [ea, eb]
  simp only [nI_leI (show a < 2 ^ 31 by omega) (show j < 2 ^ 31 by omega), nI_leI (show j < 2 ^ 31 by omega) (show b < 2 ^ 31 by omega)]
set_option maxHeartbeats 4000000 in
set_option maxRecDepth 100000 in
theorem l_M_countWith {G : gG} {l : Launch} {J : gJT} {post : Int32 → gS → Prop} {iv : Nat → Int32} {av : Nat → Nat → Int32} {n : Nat} {a : Int32} {x y : Nat} (hJ : gR true G l (gRm 4 90) b_M_countWith 6 J) (hret : ∀ (pc : Nat) (lv : List (Nat × Value)) (v : Int32) (iv2 : Nat → Int32) (av2 : Nat → Nat → Int32), decode b_M_countWith pc = .ok (.ireturn, 1) → narrow .int (.int v) = .int v → post v (iv2, av2) → J pc lv [.int v] iv2 av2) (hn : iv 6 = nI n) (hV : RVal n (vM av)) (hy : y < 32) (hp : ∀ v, v = nI (cnt (fun k => decide (vdt (vM av) n (iv 7) k = a)) (y + 1 - x) x) → post v (iv, av)) :
    ∀ (d i t : Nat), i + d = y + 1 → t ≤ 32 + i → t + cnt (fun k => decide (vdt (vM av) n (iv 7) k = a)) d i = cnt (fun k => decide (vdt (vM av) n (iv 7) k = a)) (y + 1 - x) x → J 43 [(0, .ref G.1), (1, .int a), (2, .int (nI x)), (3, .int (nI y)), (4, .int (nI t)), (5, .int (nI i))] [] iv av := by
  have hn12 := hV.1
  intro d
  induction d with
  | zero =>
    intro i t hi ht hc
    refine g_iload hJ d_M_countWith_43 rfl ?_
    refine g_iload_n hJ d_M_countWith_45 rfl ?_
    refine g_n_gt hJ (tgt := 68) d_M_countWith_46 (by decide) (by omega) (by omega) (fun _ => ?_) (fun q => absurd q (by omega))
    refine g_iload hJ d_M_countWith_68 rfl ?_
    exact hret _ _ _ _ _ d_M_countWith_70 rfl (hp _ (by rw [← hc]; rfl))
  | succ d ih =>
    intro i t hi ht hc
    refine g_iload hJ d_M_countWith_43 rfl ?_
    refine g_iload_n hJ d_M_countWith_45 rfl ?_
    refine g_n_gt hJ (tgt := 68) d_M_countWith_46 (by decide) (by omega) (by omega) (fun q => absurd q (by omega)) (fun _ => ?_)
    refine g_aload_n hJ d_M_countWith_49 rfl ?_
    refine g_iload hJ d_M_countWith_50 rfl ?_
    refine g_call hJ k_M_M_verdict (c_M_verdict G l iv av n hn hV i) (by decide) (by decide) rfl (rest := []) rfl (Nat.le_of_ble_eq_true rfl) d_M_countWith_52 (fun r u hu => ?_)
    obtain ⟨rfl, rfl⟩ := hu
    dsimp only
    refine g_iload_n hJ d_M_countWith_55 rfl ?_
    refine g_icmp_ne hJ (tgt := 62) d_M_countWith_56 (by decide) (fun c => ?_) (fun c => ?_)
    · refine g_inc hJ (lv2 := [(0, .ref G.1), (1, .int a), (2, .int (nI x)), (3, .int (nI y)), (4, .int (nI t)), (5, .int (nI (i + 1)))]) d_M_countWith_62 rfl (by decide) rfl rfl ?_
      refine g_goto hJ (tgt := 43) d_M_countWith_65 (by decide) ?_
      exact ih (i + 1) t (by omega) (by omega) (by rw [cnt_f (p := fun k => decide (vdt (vM av) n (iv 7) k = a)) (decide_eq_false c)] at hc; exact hc)
    · refine g_inc hJ (lv2 := [(0, .ref G.1), (1, .int a), (2, .int (nI x)), (3, .int (nI y)), (4, .int (nI (t + 1))), (5, .int (nI i))]) d_M_countWith_59 rfl (by decide) rfl rfl ?_
      refine g_inc hJ (lv2 := [(0, .ref G.1), (1, .int a), (2, .int (nI x)), (3, .int (nI y)), (4, .int (nI (t + 1))), (5, .int (nI (i + 1)))]) d_M_countWith_62 rfl (by decide) rfl rfl ?_
      refine g_goto hJ (tgt := 43) d_M_countWith_65 (by decide) ?_
      exact ih (i + 1) (t + 1) (by omega) (by omega) (by rw [cnt_t (p := fun k => decide (vdt (vM av) n (iv 7) k = a)) (decide_eq_true c)] at hc; omega)
set_option maxHeartbeats 4000000 in
set_option maxRecDepth 100000 in
theorem c_M_countWith (G : gG) (l : Launch) (iv : Nat → Int32) (av : Nat → Nat → Int32) (n : Nat) (hn : iv 6 = nI n) (hV : RVal n (vM av)) (a x y : Int32) : gM true G l y_M_countWith b_M_countWith 6 (gRm 4 90) .int [.int a, .int x, .int y] iv av (fun r u => r = q_count (vM av) n (iv 7) a x y ∧ u = (iv, av)) := by
  refine g_met rfl (Nat.le_of_ble_eq_true rfl) (fun J hJ hret => ?_)
  refine g_lv (lv2 := [(0, .ref G.1), (1, .int a), (2, .int x), (3, .int y)]) rfl ?_
  refine g_aload_n hJ d_M_countWith_0 rfl ?_
  refine g_iload_n hJ d_M_countWith_1 rfl ?_
  refine g_call hJ k_M_M_badNumber (c_M_badNumber G l iv av x) (by decide) (by decide) rfl (rest := []) rfl (Nat.le_of_ble_eq_true rfl) d_M_countWith_2 (fun r u hu => ?_)
  obtain ⟨rfl, rfl⟩ := hu
  dsimp only
  refine g_bne hJ (tgt := 16) d_M_countWith_5 (by decide) (fun c1 => ?_) (fun c1 => ?_)
  · refine g_iconst hJ (v := -1) d_M_countWith_16 (by decide) ?_
    exact hret _ _ _ _ _ d_M_countWith_17 rfl (⟨by unfold q_count; rw [nb_not c1]; rfl, rfl⟩)
  · obtain ⟨k, hk, hk31, rfl⟩ := nb_of c1
    refine g_aload_n hJ d_M_countWith_8 rfl ?_
    refine g_iload_n hJ d_M_countWith_9 rfl ?_
    refine g_call hJ k_M_M_badNumber (c_M_badNumber G l iv av y) (by decide) (by decide) rfl (rest := []) rfl (Nat.le_of_ble_eq_true rfl) d_M_countWith_10 (fun r u hu => ?_)
    obtain ⟨rfl, rfl⟩ := hu
    dsimp only
    refine g_beq hJ (tgt := 18) d_M_countWith_13 (by decide) (fun c2 => ?_) (fun c2 => ?_)
    · obtain ⟨j, hj, hj31, rfl⟩ := nb_of c2
      refine g_iload_n hJ d_M_countWith_18 rfl ?_
      refine g_iload_n hJ d_M_countWith_19 rfl ?_
      refine g_n_le hJ (tgt := 26) d_M_countWith_20 (by decide) (by omega) (by omega) (fun c3 => ?_) (fun c3 => ?_)
      · refine g_aload_n hJ d_M_countWith_26 rfl ?_
        refine g_iload_n hJ d_M_countWith_27 rfl ?_
        refine g_call hJ k_M_M_badAction (c_M_badAction G l iv av a) (by decide) (by decide) rfl (rest := []) rfl (Nat.le_of_ble_eq_true rfl) d_M_countWith_28 (fun r u hu => ?_)
        obtain ⟨rfl, rfl⟩ := hu
        dsimp only
        refine g_beq hJ (tgt := 37) d_M_countWith_31 (by decide) (fun c4 => ?_) (fun c4 => ?_)
        · refine g_iconst hJ (v := nI 0) d_M_countWith_37 (by decide) ?_
          refine g_istore hJ (lv2 := [(0, .ref G.1), (1, .int a), (2, .int (nI k)), (3, .int (nI j)), (4, .int (nI 0))]) d_M_countWith_38 (by decide) rfl rfl ?_
          refine g_iload_n hJ d_M_countWith_40 rfl ?_
          refine g_istore hJ (lv2 := [(0, .ref G.1), (1, .int a), (2, .int (nI k)), (3, .int (nI j)), (4, .int (nI 0)), (5, .int (nI k))]) d_M_countWith_41 (by decide) rfl rfl ?_
          exact l_M_countWith (post := fun r u => r = q_count (vM av) n (iv 7) a (nI k) (nI j) ∧ u = (iv, av)) hJ hret hn hV (by omega) (fun v hv => ⟨by unfold q_count; rw [inB_t hk hk31, inB_t hj hj31, Bool.and_self, if_pos rfl, if_neg (nI_nlt c3 hj31), if_pos (by simpa using c4), ix_nI hk31, ix_nI hj31]; exact hv, rfl⟩) (j + 1 - k) k 0 (by omega) (by omega) (by rw [Nat.zero_add])
        · refine g_bipush hJ (v := -3) d_M_countWith_34 (by decide) ?_
          exact hret _ _ _ _ _ d_M_countWith_36 rfl (⟨by unfold q_count; rw [inB_t hk hk31, inB_t hj hj31, Bool.and_self, if_pos rfl, if_neg (nI_nlt c3 hj31), nb_not c4]; rfl, rfl⟩)
      · refine g_bipush hJ (v := -2) d_M_countWith_23 (by decide) ?_
        exact hret _ _ _ _ _ d_M_countWith_25 rfl (⟨by unfold q_count; rw [inB_t hk hk31, inB_t hj hj31, Bool.and_self, if_pos rfl, if_pos (nI_lt c3 hk31)], rfl⟩)
    · refine g_iconst hJ (v := -1) d_M_countWith_16 (by decide) ?_
      exact hret _ _ _ _ _ d_M_countWith_17 rfl (⟨by unfold q_count; rw [nb_not c2, Bool.and_false]; rfl, rfl⟩)
set_option maxHeartbeats 4000000 in
set_option maxRecDepth 100000 in
theorem l_M_nextWith {G : gG} {l : Launch} {J : gJT} {post : Int32 → gS → Prop} {iv : Nat → Int32} {av : Nat → Nat → Int32} {n : Nat} {a : Int32} {x : Nat} (hJ : gR true G l (gRm 4 90) b_M_nextWith 4 J) (hret : ∀ (pc : Nat) (lv : List (Nat × Value)) (v : Int32) (iv2 : Nat → Int32) (av2 : Nat → Nat → Int32), decode b_M_nextWith pc = .ok (.ireturn, 1) → narrow .int (.int v) = .int v → post v (iv2, av2) → J pc lv [.int v] iv2 av2) (hn : iv 6 = nI n) (hV : RVal n (vM av)) (hp : ∀ v, v = (if lst (fun k => decide (vdt (vM av) n (iv 7) k = a)) (32 - x) x < 32 then nI (lst (fun k => decide (vdt (vM av) n (iv 7) k = a)) (32 - x) x) else -3) → post v (iv, av)) :
    ∀ (d i : Nat), i + d = 32 → lst (fun k => decide (vdt (vM av) n (iv 7) k = a)) (32 - x) x = lst (fun k => decide (vdt (vM av) n (iv 7) k = a)) d i → J 23 [(0, .ref G.1), (1, .int a), (2, .int (nI x)), (3, .int (nI i))] [] iv av := by
  have hn12 := hV.1
  intro d
  induction d with
  | zero =>
    intro i hi hc
    refine g_iload_n hJ d_M_nextWith_23 rfl ?_
    refine g_bipush hJ (v := nI 32) d_M_nextWith_24 (by decide) ?_
    refine g_n_ge hJ (tgt := 46) d_M_nextWith_26 (by decide) (by omega) (by omega) (fun _ => ?_) (fun q => absurd q (by omega))
    refine g_bipush hJ (v := -3) d_M_nextWith_46 (by decide) ?_
    exact hret _ _ _ _ _ d_M_nextWith_48 rfl (hp _ (by rw [hc, if_neg (by show ¬ i < 32; omega)]))
  | succ d ih =>
    intro i hi hc
    refine g_iload_n hJ d_M_nextWith_23 rfl ?_
    refine g_bipush hJ (v := nI 32) d_M_nextWith_24 (by decide) ?_
    refine g_n_ge hJ (tgt := 46) d_M_nextWith_26 (by decide) (by omega) (by omega) (fun q => absurd q (by omega)) (fun _ => ?_)
    refine g_aload_n hJ d_M_nextWith_29 rfl ?_
    refine g_iload_n hJ d_M_nextWith_30 rfl ?_
    refine g_call hJ k_M_M_verdict (c_M_verdict G l iv av n hn hV i) (by decide) (by decide) rfl (rest := []) rfl (Nat.le_of_ble_eq_true rfl) d_M_nextWith_31 (fun r u hu => ?_)
    obtain ⟨rfl, rfl⟩ := hu
    dsimp only
    refine g_iload_n hJ d_M_nextWith_34 rfl ?_
    refine g_icmp_ne hJ (tgt := 40) d_M_nextWith_35 (by decide) (fun c => ?_) (fun c => ?_)
    · refine g_inc hJ (lv2 := [(0, .ref G.1), (1, .int a), (2, .int (nI x)), (3, .int (nI (i + 1)))]) d_M_nextWith_40 rfl (by decide) rfl rfl ?_
      refine g_goto hJ (tgt := 23) d_M_nextWith_43 (by decide) ?_
      exact ih (i + 1) (by omega) (hc.trans (lst_f (p := fun k => decide (vdt (vM av) n (iv 7) k = a)) (decide_eq_false c)))
    · refine g_iload_n hJ d_M_nextWith_38 rfl ?_
      exact hret _ _ _ _ _ d_M_nextWith_39 rfl (hp _ (by rw [hc, lst_t (p := fun k => decide (vdt (vM av) n (iv 7) k = a)) (decide_eq_true c), if_pos (by omega)]))
set_option maxHeartbeats 4000000 in
set_option maxRecDepth 100000 in
theorem c_M_nextWith (G : gG) (l : Launch) (iv : Nat → Int32) (av : Nat → Nat → Int32) (n : Nat) (hn : iv 6 = nI n) (hV : RVal n (vM av)) (a x : Int32) : gM true G l y_M_nextWith b_M_nextWith 4 (gRm 4 90) .int [.int a, .int x] iv av (fun r u => r = q_next (vM av) n (iv 7) a x ∧ u = (iv, av)) := by
  refine g_met rfl (Nat.le_of_ble_eq_true rfl) (fun J hJ hret => ?_)
  refine g_lv (lv2 := [(0, .ref G.1), (1, .int a), (2, .int x)]) rfl ?_
  refine g_aload_n hJ d_M_nextWith_0 rfl ?_
  refine g_iload_n hJ d_M_nextWith_1 rfl ?_
  refine g_call hJ k_M_M_badAction (c_M_badAction G l iv av a) (by decide) (by decide) rfl (rest := []) rfl (Nat.le_of_ble_eq_true rfl) d_M_nextWith_2 (fun r u hu => ?_)
  obtain ⟨rfl, rfl⟩ := hu
  dsimp only
  refine g_beq hJ (tgt := 10) d_M_nextWith_5 (by decide) (fun c1 => ?_) (fun c1 => ?_)
  · refine g_aload_n hJ d_M_nextWith_10 rfl ?_
    refine g_iload_n hJ d_M_nextWith_11 rfl ?_
    refine g_call hJ k_M_M_badNumber (c_M_badNumber G l iv av x) (by decide) (by decide) rfl (rest := []) rfl (Nat.le_of_ble_eq_true rfl) d_M_nextWith_12 (fun r u hu => ?_)
    obtain ⟨rfl, rfl⟩ := hu
    dsimp only
    refine g_beq hJ (tgt := 21) d_M_nextWith_15 (by decide) (fun c2 => ?_) (fun c2 => ?_)
    · obtain ⟨k, hk, hk31, rfl⟩ := nb_of c2
      refine g_iload_n hJ d_M_nextWith_21 rfl ?_
      refine g_istore_n hJ (lv2 := [(0, .ref G.1), (1, .int a), (2, .int (nI k)), (3, .int (nI k))]) d_M_nextWith_22 (by decide) rfl rfl ?_
      exact l_M_nextWith (post := fun r u => r = q_next (vM av) n (iv 7) a (nI k) ∧ u = (iv, av)) hJ hret hn hV (fun v hv => ⟨by unfold q_next; rw [if_pos (by simpa using c1), inB_t hk hk31, if_pos rfl, ix_nI hk31]; exact hv, rfl⟩) (32 - k) k (by omega) rfl
    · refine g_bipush hJ (v := -2) d_M_nextWith_18 (by decide) ?_
      exact hret _ _ _ _ _ d_M_nextWith_20 rfl (⟨by unfold q_next; rw [if_pos (by simpa using c1), nb_not c2]; rfl, rfl⟩)
  · refine g_iconst hJ (v := -1) d_M_nextWith_8 (by decide) ?_
    exact hret _ _ _ _ _ d_M_nextWith_9 rfl (⟨by unfold q_next; rw [nb_not c1]; rfl, rfl⟩)
set_option maxHeartbeats 4000000 in
set_option maxRecDepth 100000 in
theorem l_M_matching {G : gG} {l : Launch} {J : gJT} {post : Int32 → gS → Prop} {iv : Nat → Int32} {av : Nat → Nat → Int32} {n : Nat} {k : Nat} (hJ : gR true G l (gRm 2 46) b_M_matching 4 J) (hret : ∀ (pc : Nat) (lv : List (Nat × Value)) (v : Int32) (iv2 : Nat → Int32) (av2 : Nat → Nat → Int32), decode b_M_matching pc = .ok (.ireturn, 1) → narrow .int (.int v) = .int v → post v (iv2, av2) → J pc lv [.int v] iv2 av2) (hn : iv 6 = nI n) (hV : RVal n (vM av)) (hp : ∀ v, v = nI (cnt (mt (vM av) k) n 0) → post v (iv, av)) :
    ∀ (d i t : Nat), i + d = n → t ≤ i → t + cnt (mt (vM av) k) d i = cnt (mt (vM av) k) n 0 → J 14 [(0, .ref G.1), (1, .int (nI k)), (2, .int (nI t)), (3, .int (nI i))] [] iv av := by
  have hn12 := hV.1
  intro d
  induction d with
  | zero =>
    intro i t hi ht hc
    refine g_iload_n hJ d_M_matching_14 rfl ?_
    refine g_gi hJ fl_M_6 rfl d_M_matching_15 d_M_matching_16 rfl ?_
    refine g_top (hn) ?_
    refine g_n_ge hJ (tgt := 46) d_M_matching_19 (by decide) (by omega) (by omega) (fun _ => ?_) (fun q => absurd q (by omega))
    refine g_iload_n hJ d_M_matching_46 rfl ?_
    exact hret _ _ _ _ _ d_M_matching_47 rfl (hp _ (by rw [← hc]; rfl))
  | succ d ih =>
    intro i t hi ht hc
    refine g_iload_n hJ d_M_matching_14 rfl ?_
    refine g_gi hJ fl_M_6 rfl d_M_matching_15 d_M_matching_16 rfl ?_
    refine g_top (hn) ?_
    refine g_n_ge hJ (tgt := 46) d_M_matching_19 (by decide) (by omega) (by omega) (fun q => absurd q (by omega)) (fun _ => ?_)
    refine g_iload_n hJ d_M_matching_22 rfl ?_
    refine g_bipush hJ (v := nI 12) d_M_matching_23 (by decide) ?_
    refine g_n_ge hJ (tgt := 46) d_M_matching_25 (by decide) (by omega) (by omega) (fun q => absurd q (by omega)) (fun _ => ?_)
    refine g_aload_n hJ d_M_matching_28 rfl ?_
    refine g_iload_n hJ d_M_matching_29 rfl ?_
    refine g_iload_n hJ d_M_matching_30 rfl ?_
    refine g_call hJ k_M_M_matches (c_M_matches G l iv av n i k hV (by omega)) (by decide) (by decide) rfl (rest := []) rfl (Nat.le_of_ble_eq_true rfl) d_M_matching_31 (fun r u hu => ?_)
    obtain ⟨rfl, rfl⟩ := hu
    dsimp only
    refine g_beq hJ (tgt := 40) d_M_matching_34 (by decide) (fun c => ?_) (fun c => ?_)
    · refine g_inc hJ (lv2 := [(0, .ref G.1), (1, .int (nI k)), (2, .int (nI t)), (3, .int (nI (i + 1)))]) d_M_matching_40 rfl (by decide) rfl rfl ?_
      refine g_goto hJ (tgt := 14) d_M_matching_43 (by decide) ?_
      exact ih (i + 1) t (by omega) (by omega) (by rw [cnt_f c] at hc; exact hc)
    · refine g_inc hJ (lv2 := [(0, .ref G.1), (1, .int (nI k)), (2, .int (nI (t + 1))), (3, .int (nI i))]) d_M_matching_37 rfl (by decide) rfl rfl ?_
      refine g_inc hJ (lv2 := [(0, .ref G.1), (1, .int (nI k)), (2, .int (nI (t + 1))), (3, .int (nI (i + 1)))]) d_M_matching_40 rfl (by decide) rfl rfl ?_
      refine g_goto hJ (tgt := 14) d_M_matching_43 (by decide) ?_
      exact ih (i + 1) (t + 1) (by omega) (by omega) (by rw [cnt_t c] at hc; omega)
set_option maxHeartbeats 4000000 in
set_option maxRecDepth 100000 in
theorem c_M_matching (G : gG) (l : Launch) (iv : Nat → Int32) (av : Nat → Nat → Int32) (n : Nat) (hn : iv 6 = nI n) (hV : RVal n (vM av)) (x : Int32) : gM true G l y_M_matching b_M_matching 4 (gRm 2 46) .int [.int x] iv av (fun r u => r = q_matching (vM av) n x ∧ u = (iv, av)) := by
  refine g_met rfl (Nat.le_of_ble_eq_true rfl) (fun J hJ hret => ?_)
  refine g_lv (lv2 := [(0, .ref G.1), (1, .int x)]) rfl ?_
  refine g_aload_n hJ d_M_matching_0 rfl ?_
  refine g_iload_n hJ d_M_matching_1 rfl ?_
  refine g_call hJ k_M_M_badNumber (c_M_badNumber G l iv av x) (by decide) (by decide) rfl (rest := []) rfl (Nat.le_of_ble_eq_true rfl) d_M_matching_2 (fun r u hu => ?_)
  obtain ⟨rfl, rfl⟩ := hu
  dsimp only
  refine g_beq hJ (tgt := 10) d_M_matching_5 (by decide) (fun c1 => ?_) (fun c1 => ?_)
  · obtain ⟨k, hk, hk31, rfl⟩ := nb_of c1
    refine g_iconst hJ (v := nI 0) d_M_matching_10 (by decide) ?_
    refine g_istore_n hJ (lv2 := [(0, .ref G.1), (1, .int (nI k)), (2, .int (nI 0))]) d_M_matching_11 (by decide) rfl rfl ?_
    refine g_iconst hJ (v := nI 0) d_M_matching_12 (by decide) ?_
    refine g_istore_n hJ (lv2 := [(0, .ref G.1), (1, .int (nI k)), (2, .int (nI 0)), (3, .int (nI 0))]) d_M_matching_13 (by decide) rfl rfl ?_
    exact l_M_matching (post := fun r u => r = q_matching (vM av) n (nI k) ∧ u = (iv, av)) hJ hret hn hV (fun v hv => ⟨by unfold q_matching; rw [inB_t hk hk31, if_pos rfl, ix_nI hk31]; exact hv, rfl⟩) n 0 0 (by omega) (by omega) (by rw [Nat.zero_add])
  · refine g_iconst hJ (v := -1) d_M_matching_8 (by decide) ?_
    exact hret _ _ _ _ _ d_M_matching_9 rfl (⟨by unfold q_matching; rw [nb_not c1]; rfl, rfl⟩)
set_option maxHeartbeats 4000000 in
set_option maxRecDepth 100000 in
theorem l_M_shadowed {G : gG} {l : Launch} {J : gJT} {post : Int32 → gS → Prop} {iv : Nat → Int32} {av : Nat → Nat → Int32} {n : Nat} {q k : Nat} (hJ : gR true G l (gRm 1 22) b_M_shadowed 4 J) (hret : ∀ (pc : Nat) (lv : List (Nat × Value)) (v : Int32) (iv2 : Nat → Int32) (av2 : Nat → Nat → Int32), decode b_M_shadowed pc = .ok (.ireturn, 1) → narrow .boolean (.int v) = .int v → post v (iv2, av2) → J pc lv [.int v] iv2 av2) (hn : iv 6 = nI n) (hV : RVal n (vM av)) (hq : q < n) (hp : ∀ v, v = b2 (shd (vM av) q k) → post v (iv, av)) :
    ∀ (d i : Nat), i + d = q → (∀ j, j < i → (fun i => has (vM av) i k && plV (vM av) i) j = false) → J 2 [(0, .ref G.1), (1, .int (nI q)), (2, .int (nI k)), (3, .int (nI i))] [] iv av := by
  have hn12 := hV.1
  intro d
  induction d with
  | zero =>
    intro i hi hc
    refine g_iload_n hJ d_M_shadowed_2 rfl ?_
    refine g_iload_n hJ d_M_shadowed_3 rfl ?_
    refine g_n_ge hJ (tgt := 60) d_M_shadowed_4 (by decide) (by omega) (by omega) (fun _ => ?_) (fun q => absurd q (by omega))
    refine g_iconst hJ (v := nI 0) d_M_shadowed_60 (by decide) ?_
    exact hret _ _ _ _ _ d_M_shadowed_61 rfl (hp _ (b2_nof (any_no (fun j hj => hc j (by omega)))))
  | succ d ih =>
    intro i hi hc
    obtain ⟨w0, h01, h02, h03⟩ := hV.2.2 (2 * i) (by omega)
    obtain ⟨w1, h11, h12, h13⟩ := hV.2.2 (2 * i + 1) (by omega)
    have e0 := wN_of h03 h01
    have e1 := wN_of h13 h11
    have nx : (fun i => has (vM av) i k && plV (vM av) i) i = false → ∀ j, j < i + 1 → (fun i => has (vM av) i k && plV (vM av) i) j = false := fun h => lt_s hc h
    refine g_iload_n hJ d_M_shadowed_2 rfl ?_
    refine g_iload_n hJ d_M_shadowed_3 rfl ?_
    refine g_n_ge hJ (tgt := 60) d_M_shadowed_4 (by decide) (by omega) (by omega) (fun q => absurd q (by omega)) (fun _ => ?_)
    refine g_iload_n hJ d_M_shadowed_7 rfl ?_
    refine g_bipush hJ (v := nI 12) d_M_shadowed_8 (by decide) ?_
    refine g_n_ge hJ (tgt := 60) d_M_shadowed_10 (by decide) (by omega) (by omega) (fun q => absurd q (by omega)) (fun _ => ?_)
    refine g_aload_n hJ d_M_shadowed_13 rfl ?_
    refine g_iload_n hJ d_M_shadowed_14 rfl ?_
    refine g_iload_n hJ d_M_shadowed_15 rfl ?_
    refine g_call hJ k_M_M_has (c_M_has G l iv av i k (by omega)) (by decide) (by decide) rfl (rest := []) rfl (Nat.le_of_ble_eq_true rfl) d_M_shadowed_16 (fun r u hu => ?_)
    obtain ⟨rfl, rfl⟩ := hu
    dsimp only
    refine g_beq hJ (tgt := 54) d_M_shadowed_19 (by decide) (fun c => ?_) (fun c => ?_)
    · refine g_inc hJ (lv2 := [(0, .ref G.1), (1, .int (nI q)), (2, .int (nI k)), (3, .int (nI (i + 1)))]) d_M_shadowed_54 rfl (by decide) rfl rfl ?_
      refine g_goto hJ (tgt := 2) d_M_shadowed_57 (by decide) ?_
      exact ih (i + 1) (by omega) (nx (by (try dsimp only); rw [c]; rfl))
    · refine g_ga hJ fl_M_3 (n := 28) rfl d_M_shadowed_22 d_M_shadowed_23 rfl ?_
      refine g_iconst hJ (v := nI 2) d_M_shadowed_26 (by decide) ?_
      refine g_iload_n hJ d_M_shadowed_27 rfl ?_
      refine g_imuln hJ d_M_shadowed_28 ?_
      refine g_iald hJ (k := 3) (n := 28) rfl (by decide) (by omega) d_M_shadowed_29 ?_
      refine g_top (h03) ?_
      refine g_bipush hJ (v := nI 8) d_M_shadowed_30 (by decide) ?_
      refine g_iremn hJ d_M_shadowed_32 (by omega) (by decide) (by decide) ?_
      refine g_nz hJ (tgt := 54) d_M_shadowed_33 (by decide) (by omega) (fun c0 => ?_) (fun c0 => ?_)
      · refine g_inc hJ (lv2 := [(0, .ref G.1), (1, .int (nI q)), (2, .int (nI k)), (3, .int (nI (i + 1)))]) d_M_shadowed_54 rfl (by decide) rfl rfl ?_
        refine g_goto hJ (tgt := 2) d_M_shadowed_57 (by decide) ?_
        exact ih (i + 1) (by omega) (nx (by dsimp only [plV]; rw [e0, decide_eq_false c0]; simp))
      · refine g_ga hJ fl_M_3 (n := 28) rfl d_M_shadowed_36 d_M_shadowed_37 rfl ?_
        refine g_iconst hJ (v := nI 2) d_M_shadowed_40 (by decide) ?_
        refine g_iload_n hJ d_M_shadowed_41 rfl ?_
        refine g_imuln hJ d_M_shadowed_42 ?_
        refine g_iconst hJ (v := nI 1) d_M_shadowed_43 (by decide) ?_
        refine g_iaddn hJ d_M_shadowed_44 ?_
        refine g_iald hJ (k := 3) (n := 28) rfl (by decide) (by omega) d_M_shadowed_45 ?_
        refine g_top (h13) ?_
        refine g_bipush hJ (v := nI 8) d_M_shadowed_46 (by decide) ?_
        refine g_iremn hJ d_M_shadowed_48 (by omega) (by decide) (by decide) ?_
        refine g_nz hJ (tgt := 54) d_M_shadowed_49 (by decide) (by omega) (fun c1 => ?_) (fun c1 => ?_)
        · refine g_inc hJ (lv2 := [(0, .ref G.1), (1, .int (nI q)), (2, .int (nI k)), (3, .int (nI (i + 1)))]) d_M_shadowed_54 rfl (by decide) rfl rfl ?_
          refine g_goto hJ (tgt := 2) d_M_shadowed_57 (by decide) ?_
          exact ih (i + 1) (by omega) (nx (by dsimp only [plV]; rw [e1, decide_eq_false c1]; simp))
        · refine g_iconst hJ (v := nI 1) d_M_shadowed_52 (by decide) ?_
          exact hret _ _ _ _ _ d_M_shadowed_53 rfl (hp _ (b2_of (any_of (j := i) (by omega) (by dsimp only [plV]; rw [c, e0, e1, decide_eq_true c0, decide_eq_true c1]; rfl))))
set_option maxHeartbeats 4000000 in
set_option maxRecDepth 100000 in
theorem c_M_shadowed (G : gG) (l : Launch) (iv : Nat → Int32) (av : Nat → Nat → Int32) (n : Nat) (hn : iv 6 = nI n) (hV : RVal n (vM av)) (q k : Nat) (hq : q < n) : gM true G l y_M_shadowed b_M_shadowed 4 (gRm 1 22) .boolean [.int (nI q), .int (nI k)] iv av (fun r u => r = b2 (shd (vM av) q k) ∧ u = (iv, av)) := by
  refine g_met rfl (Nat.le_of_ble_eq_true rfl) (fun J hJ hret => ?_)
  refine g_lv (lv2 := [(0, .ref G.1), (1, .int (nI q)), (2, .int (nI k))]) rfl ?_
  refine g_iconst hJ (v := nI 0) d_M_shadowed_0 (by decide) ?_
  refine g_istore_n hJ (lv2 := [(0, .ref G.1), (1, .int (nI q)), (2, .int (nI k)), (3, .int (nI 0))]) d_M_shadowed_1 (by decide) rfl rfl ?_
  exact l_M_shadowed (post := fun r u => r = b2 (shd (vM av) q k) ∧ u = (iv, av)) hJ hret hn hV hq (fun v hv => ⟨hv, rfl⟩) q 0 (by omega) (fun j hj => absurd hj (Nat.not_lt_zero j))
set_option maxHeartbeats 4000000 in
set_option maxRecDepth 100000 in
theorem l_M_hidden {G : gG} {l : Launch} {J : gJT} {post : Int32 → gS → Prop} {iv : Nat → Int32} {av : Nat → Nat → Int32} {n : Nat} {q a b : Nat} (hJ : gR true G l (gRm 2 45) b_M_hidden 3 J) (hret : ∀ (pc : Nat) (lv : List (Nat × Value)) (v : Int32) (iv2 : Nat → Int32) (av2 : Nat → Nat → Int32), decode b_M_hidden pc = .ok (.ireturn, 1) → narrow .int (.int v) = .int v → post v (iv2, av2) → J pc lv [.int v] iv2 av2) (hn : iv 6 = nI n) (hV : RVal n (vM av)) (hq : q < n) (ha : a < 32) (hb : b < 32) (ea : av 0 q = nI a) (eb : av 1 q = nI b) (hp : ∀ v, v = b2 (!anyB (fun k => has (vM av) q k && !shd (vM av) q k) 32) → post v (iv, av)) :
    ∀ (d k : Nat), k + d = 32 → a ≤ k → (∀ j, j < k → (fun k => has (vM av) q k && !shd (vM av) q k) j = false) → J 17 [(0, .ref G.1), (1, .int (nI q)), (2, .int (nI k))] [] iv av := by
  have hh : ∀ j, j < 32 → has (vM av) q j = (decide (a ≤ j) && decide (j ≤ b)) := fun j hj => has_nat ea eb ha hb hj
  have hn12 := hV.1
  intro d
  induction d with
  | zero =>
    intro k hi hak hc
    refine g_iload_n hJ d_M_hidden_17 rfl ?_
    refine g_ga hJ fl_M_1 (n := 14) rfl d_M_hidden_18 d_M_hidden_19 rfl ?_
    refine g_iload_n hJ d_M_hidden_22 rfl ?_
    refine g_iald hJ (k := 1) (n := 14) rfl (by decide) (by omega) d_M_hidden_23 ?_
    refine g_top (eb) ?_
    refine g_n_gt hJ (tgt := 50) d_M_hidden_24 (by decide) (by omega) (by omega) (fun _ => ?_) (fun q => absurd q (by omega))
    refine g_iconst hJ (v := nI 1) d_M_hidden_50 (by decide) ?_
    exact hret _ _ _ _ _ d_M_hidden_51 rfl (hp _ (b2_of (by rw [any_no (fun j hj => hc j (by omega))]; rfl)))
  | succ d ih =>
    intro k hi hak hc
    refine g_iload_n hJ d_M_hidden_17 rfl ?_
    refine g_ga hJ fl_M_1 (n := 14) rfl d_M_hidden_18 d_M_hidden_19 rfl ?_
    refine g_iload_n hJ d_M_hidden_22 rfl ?_
    refine g_iald hJ (k := 1) (n := 14) rfl (by decide) (by omega) d_M_hidden_23 ?_
    refine g_top (eb) ?_
    refine g_n_gt hJ (tgt := 50) d_M_hidden_24 (by decide) (by omega) (by omega) (fun c => ?_) (fun c => ?_)
    · refine g_iconst hJ (v := nI 1) d_M_hidden_50 (by decide) ?_
      exact hret _ _ _ _ _ d_M_hidden_51 rfl (hp _ (b2_of (by
        rw [any_no (p := fun k => has (vM av) q k && !shd (vM av) q k) (n := 32) (fun j hj => by
          rcases Nat.lt_or_ge j k with hjk | hjk
          · exact hc j hjk
          · (try dsimp only); rw [hh j hj, decide_eq_false (show ¬ j ≤ b by omega), Bool.and_false, Bool.false_and])]
        rfl)))
    · refine g_iload_n hJ d_M_hidden_27 rfl ?_
      refine g_bipush hJ (v := nI 32) d_M_hidden_28 (by decide) ?_
      refine g_n_ge hJ (tgt := 50) d_M_hidden_30 (by decide) (by omega) (by omega) (fun q => absurd q (by omega)) (fun _ => ?_)
      refine g_aload_n hJ d_M_hidden_33 rfl ?_
      refine g_iload_n hJ d_M_hidden_34 rfl ?_
      refine g_iload_n hJ d_M_hidden_35 rfl ?_
      refine g_call hJ k_M_M_shadowed (c_M_shadowed G l iv av n hn hV q k hq) (by decide) (by decide) rfl (rest := []) rfl (Nat.le_of_ble_eq_true rfl) d_M_hidden_36 (fun r u hu => ?_)
      obtain ⟨rfl, rfl⟩ := hu
      dsimp only
      refine g_bne hJ (tgt := 44) d_M_hidden_39 (by decide) (fun c2 => ?_) (fun c2 => ?_)
      · refine g_inc hJ (lv2 := [(0, .ref G.1), (1, .int (nI q)), (2, .int (nI (k + 1)))]) d_M_hidden_44 rfl (by decide) rfl rfl ?_
        refine g_goto hJ (tgt := 17) d_M_hidden_47 (by decide) ?_
        exact ih (k + 1) (by omega) (by omega) (lt_s hc (by (try dsimp only); rw [c2]; simp))
      · refine g_iconst hJ (v := nI 0) d_M_hidden_42 (by decide) ?_
        exact hret _ _ _ _ _ d_M_hidden_43 rfl (hp _ (b2_nof (by rw [any_of (p := fun k => has (vM av) q k && !shd (vM av) q k) (j := k) (by omega) (by (try dsimp only); rw [hh k (by omega), c2, decide_eq_true hak, decide_eq_true c]; rfl)]; rfl)))
set_option maxHeartbeats 4000000 in
set_option maxRecDepth 100000 in
theorem c_M_hidden (G : gG) (l : Launch) (iv : Nat → Int32) (av : Nat → Nat → Int32) (n : Nat) (hn : iv 6 = nI n) (hV : RVal n (vM av)) (x : Int32) : gM true G l y_M_hidden b_M_hidden 3 (gRm 2 45) .int [.int x] iv av (fun r u => r = q_hidden (vM av) n x ∧ u = (iv, av)) := by
  refine g_met rfl (Nat.le_of_ble_eq_true rfl) (fun J hJ hret => ?_)
  refine g_lv (lv2 := [(0, .ref G.1), (1, .int x)]) rfl ?_
  have hn12 := hV.1
  refine g_aload_n hJ d_M_hidden_0 rfl ?_
  refine g_iload_n hJ d_M_hidden_1 rfl ?_
  refine g_call hJ k_M_M_badRule (c_M_badRule G l iv av n hn hn12 x) (by decide) (by decide) rfl (rest := []) rfl (Nat.le_of_ble_eq_true rfl) d_M_hidden_2 (fun r u hu => ?_)
  obtain ⟨rfl, rfl⟩ := hu
  dsimp only
  refine g_beq hJ (tgt := 10) d_M_hidden_5 (by decide) (fun c1 => ?_) (fun c1 => ?_)
  · obtain ⟨q, hk, hk31, rfl⟩ := nb_of c1
    obtain ⟨a, b, ha, hb, ea, eb⟩ := hV.2.1 q hk
    have hh : ∀ j, j < 32 → has (vM av) q j = (decide (a ≤ j) && decide (j ≤ b)) := fun j hj => has_nat ea eb ha hb hj
    refine g_ga hJ fl_M_0 (n := 14) rfl d_M_hidden_10 d_M_hidden_11 rfl ?_
    refine g_iload_n hJ d_M_hidden_14 rfl ?_
    refine g_iald hJ (k := 0) (n := 14) rfl (by decide) (by omega) d_M_hidden_15 ?_
    refine g_top (ea) ?_
    refine g_istore_n hJ (lv2 := [(0, .ref G.1), (1, .int (nI q)), (2, .int (nI a))]) d_M_hidden_16 (by decide) rfl rfl ?_
    exact l_M_hidden (post := fun r u => r = q_hidden (vM av) n (nI q) ∧ u = (iv, av)) hJ hret hn hV hk ha hb ea eb (fun v hv => ⟨by unfold q_hidden; rw [inB_t hk hk31, if_pos rfl, ix_nI hk31]; exact hv, rfl⟩) (32 - a) a (by omega) (Nat.le_refl a) (fun j hj => by (try dsimp only); rw [hh j (by omega), decide_eq_false (show ¬ a ≤ j by omega)]; rfl)
  · refine g_iconst hJ (v := -1) d_M_hidden_8 (by decide) ?_
    exact hret _ _ _ _ _ d_M_hidden_9 rfl (⟨by unfold q_hidden; rw [nb_not c1]; rfl, rfl⟩)
set_option maxHeartbeats 4000000 in
set_option maxRecDepth 100000 in
theorem l_M_stretches_in {G : gG} {l : Launch} {J : gJT} {post : Int32 → gS → Prop} {iv : Nat → Int32} {av : Nat → Nat → Int32} {n : Nat} {t k : Nat} (hJ : gR true G l (gRm 1 22) b_M_stretches 5 J)  (hn : iv 6 = nI n) (hV : RVal n (vM av)) (hk : 1 ≤ k ∧ k < 32) (nx : J 58 [(0, .ref G.1), (1, .int (nI t)), (2, .int (nI k)), (3, .int (b2 (!chg (vM av) n k))), (4, .int (nI n))] [] iv av) :
    ∀ (d i : Nat), i + d = n → J 15 [(0, .ref G.1), (1, .int (nI t)), (2, .int (nI k)), (3, .int (b2 (!anyB (fun r => has (vM av) r k != has (vM av) r (k - 1)) i))), (4, .int (nI i))] [] iv av := by
  have hn12 := hV.1
  intro d
  induction d with
  | zero =>
    intro i hi
    have hin : i = n := by omega
    subst hin
    refine g_iload hJ d_M_stretches_15 rfl ?_
    refine g_gi hJ fl_M_6 rfl d_M_stretches_17 d_M_stretches_18 rfl ?_
    refine g_top (hn) ?_
    refine g_n_ge hJ (tgt := 58) d_M_stretches_21 (by decide) (by omega) (by omega) (fun _ => ?_) (fun q => absurd q (by omega))
    exact nx
  | succ d ih =>
    intro i hi
    refine g_iload hJ d_M_stretches_15 rfl ?_
    refine g_gi hJ fl_M_6 rfl d_M_stretches_17 d_M_stretches_18 rfl ?_
    refine g_top (hn) ?_
    refine g_n_ge hJ (tgt := 58) d_M_stretches_21 (by decide) (by omega) (by omega) (fun q => absurd q (by omega)) (fun _ => ?_)
    refine g_iload hJ d_M_stretches_24 rfl ?_
    refine g_bipush hJ (v := nI 12) d_M_stretches_26 (by decide) ?_
    refine g_n_ge hJ (tgt := 58) d_M_stretches_28 (by decide) (by omega) (by omega) (fun q => absurd q (by omega)) (fun _ => ?_)
    refine g_aload_n hJ d_M_stretches_31 rfl ?_
    refine g_iload hJ d_M_stretches_32 rfl ?_
    refine g_iload_n hJ d_M_stretches_34 rfl ?_
    refine g_call hJ k_M_M_has (c_M_has G l iv av i k (by omega)) (by decide) (by decide) rfl (rest := []) rfl (Nat.le_of_ble_eq_true rfl) d_M_stretches_35 (fun r u hu => ?_)
    obtain ⟨rfl, rfl⟩ := hu
    dsimp only
    refine g_aload_n hJ d_M_stretches_38 rfl ?_
    refine g_iload hJ d_M_stretches_39 rfl ?_
    refine g_iload_n hJ d_M_stretches_41 rfl ?_
    refine g_iconst hJ (v := nI 1) d_M_stretches_42 (by decide) ?_
    refine g_isubn hJ d_M_stretches_43 (by omega) ?_
    refine g_call hJ k_M_M_has (c_M_has G l iv av i (k - 1) (by omega)) (by decide) (by decide) rfl (rest := [.int (b2 (has (vM av) i k))]) rfl (Nat.le_of_ble_eq_true rfl) d_M_stretches_44 (fun r u hu => ?_)
    obtain ⟨rfl, rfl⟩ := hu
    dsimp only
    refine g_icmp_eq hJ (tgt := 52) d_M_stretches_47 (by decide) (fun c => ?_) (fun c => ?_)
    · have e : anyB (fun r => has (vM av) r k != has (vM av) r (k - 1)) (i + 1) = anyB (fun r => has (vM av) r k != has (vM av) r (k - 1)) i := by
        show (anyB (fun r => has (vM av) r k != has (vM av) r (k - 1)) i || _) = _
        dsimp only
        rw [b2_inj c, bne_self_eq_false, Bool.or_false]
      have ih2 := ih (i + 1) (by omega)
      rw [e] at ih2
      refine g_inc hJ (lv2 := [(0, .ref G.1), (1, .int (nI t)), (2, .int (nI k)), (3, .int (b2 (!anyB (fun r => has (vM av) r k != has (vM av) r (k - 1)) i))), (4, .int (nI (i + 1)))]) d_M_stretches_52 rfl (by decide) rfl rfl ?_
      refine g_goto hJ (tgt := 15) d_M_stretches_55 (by decide) ?_
      exact ih2
    · have e : anyB (fun r => has (vM av) r k != has (vM av) r (k - 1)) (i + 1) = true := any_of (j := i) (by omega) (by (try dsimp only); exact bne_iff_ne.mpr (fun h => c (by rw [h])))
      have ih2 := ih (i + 1) (by omega)
      rw [e] at ih2
      refine g_iconst hJ (v := nI 0) d_M_stretches_50 (by decide) ?_
      refine g_istore_n hJ (lv2 := [(0, .ref G.1), (1, .int (nI t)), (2, .int (nI k)), (3, .int (nI 0)), (4, .int (nI i))]) d_M_stretches_51 (by decide) rfl rfl ?_
      refine g_inc hJ (lv2 := [(0, .ref G.1), (1, .int (nI t)), (2, .int (nI k)), (3, .int (nI 0)), (4, .int (nI (i + 1)))]) d_M_stretches_52 rfl (by decide) rfl rfl ?_
      refine g_goto hJ (tgt := 15) d_M_stretches_55 (by decide) ?_
      exact ih2
set_option maxHeartbeats 4000000 in
set_option maxRecDepth 100000 in
theorem l_M_stretches {G : gG} {l : Launch} {J : gJT} {post : Int32 → gS → Prop} {iv : Nat → Int32} {av : Nat → Nat → Int32} {n : Nat} (hJ : gR true G l (gRm 1 22) b_M_stretches 5 J) (hret : ∀ (pc : Nat) (lv : List (Nat × Value)) (v : Int32) (iv2 : Nat → Int32) (av2 : Nat → Nat → Int32), decode b_M_stretches pc = .ok (.ireturn, 1) → narrow .int (.int v) = .int v → post v (iv2, av2) → J pc lv [.int v] iv2 av2) (hn : iv 6 = nI n) (hV : RVal n (vM av)) (hp : ∀ v, v = nI (1 + cnt (chg (vM av) n) 31 1) → post v (iv, av)) :
    ∀ (d k t : Nat), k + d = 32 → 1 ≤ k → t ≤ k → t + cnt (chg (vM av) n) d k = 1 + cnt (chg (vM av) n) 31 1 → J 4 [(0, .ref G.1), (1, .int (nI t)), (2, .int (nI k))] [] iv av := by
  have hn12 := hV.1
  intro d
  induction d with
  | zero =>
    intro k t hi hk1 ht hc
    refine g_iload_n hJ d_M_stretches_4 rfl ?_
    refine g_bipush hJ (v := nI 32) d_M_stretches_5 (by decide) ?_
    refine g_n_ge hJ (tgt := 71) d_M_stretches_7 (by decide) (by omega) (by omega) (fun _ => ?_) (fun q => absurd q (by omega))
    refine g_iload_n hJ d_M_stretches_71 rfl ?_
    exact hret _ _ _ _ _ d_M_stretches_72 rfl (hp _ (by rw [← hc]; rfl))
  | succ d ih =>
    intro k t hi hk1 ht hc
    refine g_iload_n hJ d_M_stretches_4 rfl ?_
    refine g_bipush hJ (v := nI 32) d_M_stretches_5 (by decide) ?_
    refine g_n_ge hJ (tgt := 71) d_M_stretches_7 (by decide) (by omega) (by omega) (fun q => absurd q (by omega)) (fun _ => ?_)
    refine g_iconst hJ (v := nI 1) d_M_stretches_10 (by decide) ?_
    refine g_istore_n hJ (lv2 := [(0, .ref G.1), (1, .int (nI t)), (2, .int (nI k)), (3, .int (nI 1))]) d_M_stretches_11 (by decide) rfl rfl ?_
    refine g_iconst hJ (v := nI 0) d_M_stretches_12 (by decide) ?_
    refine g_istore hJ (lv2 := [(0, .ref G.1), (1, .int (nI t)), (2, .int (nI k)), (3, .int (nI 1)), (4, .int (nI 0))]) d_M_stretches_13 (by decide) rfl rfl ?_
    refine l_M_stretches_in (iv := iv) (av := av) (n := n) (t := t) (k := k) (post := post) hJ hn hV ⟨hk1, by omega⟩ ?_ n 0 (by omega)
    refine g_iload_n hJ d_M_stretches_58 rfl ?_
    refine g_bne hJ (tgt := 65) d_M_stretches_59 (by decide) (fun c => ?_) (fun c => ?_)
    · refine g_inc hJ (lv2 := [(0, .ref G.1), (1, .int (nI t)), (2, .int (nI (k + 1))), (3, .int (b2 (!chg (vM av) n k))), (4, .int (nI n))]) d_M_stretches_65 rfl (by decide) rfl rfl ?_
      refine g_goto hJ (tgt := 4) d_M_stretches_68 (by decide) ?_
      refine g_drop hJ (lv2 := [(0, .ref G.1), (1, .int (nI t)), (2, .int (nI (k + 1)))]) (ex := [(3, .int (b2 (!chg (vM av) n k))), (4, .int (nI n))]) rfl ?_
      exact ih (k + 1) t (by omega) (by omega) (by omega) (by rw [cnt_f (p := chg (vM av) n) (by simpa using c)] at hc; exact hc)
    · refine g_inc hJ (lv2 := [(0, .ref G.1), (1, .int (nI (t + 1))), (2, .int (nI k)), (3, .int (b2 (!chg (vM av) n k))), (4, .int (nI n))]) d_M_stretches_62 rfl (by decide) rfl rfl ?_
      refine g_inc hJ (lv2 := [(0, .ref G.1), (1, .int (nI (t + 1))), (2, .int (nI (k + 1))), (3, .int (b2 (!chg (vM av) n k))), (4, .int (nI n))]) d_M_stretches_65 rfl (by decide) rfl rfl ?_
      refine g_goto hJ (tgt := 4) d_M_stretches_68 (by decide) ?_
      refine g_drop hJ (lv2 := [(0, .ref G.1), (1, .int (nI (t + 1))), (2, .int (nI (k + 1)))]) (ex := [(3, .int (b2 (!chg (vM av) n k))), (4, .int (nI n))]) rfl ?_
      exact ih (k + 1) (t + 1) (by omega) (by omega) (by omega) (by rw [cnt_t (p := chg (vM av) n) (by simpa using c)] at hc; omega)
set_option maxHeartbeats 4000000 in
set_option maxRecDepth 100000 in
theorem c_M_stretches (G : gG) (l : Launch) (iv : Nat → Int32) (av : Nat → Nat → Int32) (n : Nat) (hn : iv 6 = nI n) (hV : RVal n (vM av)) : gM true G l y_M_stretches b_M_stretches 5 (gRm 1 22) .int [] iv av (fun r u => r = q_stretches (vM av) n ∧ u = (iv, av)) := by
  refine g_met rfl (Nat.le_of_ble_eq_true rfl) (fun J hJ hret => ?_)
  refine g_lv (lv2 := [(0, .ref G.1)]) rfl ?_
  refine g_iconst hJ (v := nI 1) d_M_stretches_0 (by decide) ?_
  refine g_istore_n hJ (lv2 := [(0, .ref G.1), (1, .int (nI 1))]) d_M_stretches_1 (by decide) rfl rfl ?_
  refine g_iconst hJ (v := nI 1) d_M_stretches_2 (by decide) ?_
  refine g_istore_n hJ (lv2 := [(0, .ref G.1), (1, .int (nI 1)), (2, .int (nI 1))]) d_M_stretches_3 (by decide) rfl rfl ?_
  exact l_M_stretches (post := fun r u => r = q_stretches (vM av) n ∧ u = (iv, av)) hJ hret hn hV (fun v hv => ⟨hv, rfl⟩) 31 1 1 (by omega) (by omega) (by omega) rfl
set_option maxHeartbeats 4000000 in
set_option maxRecDepth 100000 in
theorem l_M_open_in {G : gG} {l : Launch} {J : gJT} {post : Int32 → gS → Prop} {iv : Nat → Int32} {av : Nat → Nat → Int32} {n : Nat} {t k : Nat} (hJ : gR true G l (gRm 1 22) b_M_open 5 J)  (hn : iv 6 = nI n) (hV : RVal n (vM av)) (hk : k < 32) (nx : J 49 [(0, .ref G.1), (1, .int (nI t)), (2, .int (nI k)), (3, .int (b2 (anyB (fun r => has (vM av) r k) n))), (4, .int (nI n))] [] iv av) :
    ∀ (d i : Nat), i + d = n → J 15 [(0, .ref G.1), (1, .int (nI t)), (2, .int (nI k)), (3, .int (b2 (anyB (fun r => has (vM av) r k) i))), (4, .int (nI i))] [] iv av := by
  have hn12 := hV.1
  intro d
  induction d with
  | zero =>
    intro i hi
    have hin : i = n := by omega
    subst hin
    refine g_iload hJ d_M_open_15 rfl ?_
    refine g_gi hJ fl_M_6 rfl d_M_open_17 d_M_open_18 rfl ?_
    refine g_top (hn) ?_
    refine g_n_ge hJ (tgt := 49) d_M_open_21 (by decide) (by omega) (by omega) (fun _ => ?_) (fun q => absurd q (by omega))
    exact nx
  | succ d ih =>
    intro i hi
    refine g_iload hJ d_M_open_15 rfl ?_
    refine g_gi hJ fl_M_6 rfl d_M_open_17 d_M_open_18 rfl ?_
    refine g_top (hn) ?_
    refine g_n_ge hJ (tgt := 49) d_M_open_21 (by decide) (by omega) (by omega) (fun q => absurd q (by omega)) (fun _ => ?_)
    refine g_iload hJ d_M_open_24 rfl ?_
    refine g_bipush hJ (v := nI 12) d_M_open_26 (by decide) ?_
    refine g_n_ge hJ (tgt := 49) d_M_open_28 (by decide) (by omega) (by omega) (fun q => absurd q (by omega)) (fun _ => ?_)
    refine g_aload_n hJ d_M_open_31 rfl ?_
    refine g_iload hJ d_M_open_32 rfl ?_
    refine g_iload_n hJ d_M_open_34 rfl ?_
    refine g_call hJ k_M_M_has (c_M_has G l iv av i k (by omega)) (by decide) (by decide) rfl (rest := []) rfl (Nat.le_of_ble_eq_true rfl) d_M_open_35 (fun r u hu => ?_)
    obtain ⟨rfl, rfl⟩ := hu
    dsimp only
    refine g_beq hJ (tgt := 43) d_M_open_38 (by decide) (fun c => ?_) (fun c => ?_)
    · have e : anyB (fun r => has (vM av) r k) (i + 1) = anyB (fun r => has (vM av) r k) i := by
        show (anyB (fun r => has (vM av) r k) i || _) = _
        dsimp only
        rw [c, Bool.or_false]
      have ih2 := ih (i + 1) (by omega)
      rw [e] at ih2
      refine g_inc hJ (lv2 := [(0, .ref G.1), (1, .int (nI t)), (2, .int (nI k)), (3, .int (b2 (anyB (fun r => has (vM av) r k) i))), (4, .int (nI (i + 1)))]) d_M_open_43 rfl (by decide) rfl rfl ?_
      refine g_goto hJ (tgt := 15) d_M_open_46 (by decide) ?_
      exact ih2
    · have e : anyB (fun r => has (vM av) r k) (i + 1) = true := any_of (j := i) (by omega) c
      have ih2 := ih (i + 1) (by omega)
      rw [e] at ih2
      refine g_iconst hJ (v := nI 1) d_M_open_41 (by decide) ?_
      refine g_istore_n hJ (lv2 := [(0, .ref G.1), (1, .int (nI t)), (2, .int (nI k)), (3, .int (nI 1)), (4, .int (nI i))]) d_M_open_42 (by decide) rfl rfl ?_
      refine g_inc hJ (lv2 := [(0, .ref G.1), (1, .int (nI t)), (2, .int (nI k)), (3, .int (nI 1)), (4, .int (nI (i + 1)))]) d_M_open_43 rfl (by decide) rfl rfl ?_
      refine g_goto hJ (tgt := 15) d_M_open_46 (by decide) ?_
      exact ih2
set_option maxHeartbeats 4000000 in
set_option maxRecDepth 100000 in
theorem l_M_open {G : gG} {l : Launch} {J : gJT} {post : Int32 → gS → Prop} {iv : Nat → Int32} {av : Nat → Nat → Int32} {n : Nat} (hJ : gR true G l (gRm 1 22) b_M_open 5 J) (hret : ∀ (pc : Nat) (lv : List (Nat × Value)) (v : Int32) (iv2 : Nat → Int32) (av2 : Nat → Nat → Int32), decode b_M_open pc = .ok (.ireturn, 1) → narrow .int (.int v) = .int v → post v (iv2, av2) → J pc lv [.int v] iv2 av2) (hn : iv 6 = nI n) (hV : RVal n (vM av)) (hp : ∀ v, v = nI (cnt (fun k => !anyB (fun r => has (vM av) r k) n) 32 0) → post v (iv, av)) :
    ∀ (d k t : Nat), k + d = 32 → t ≤ k → t + cnt (fun k => !anyB (fun r => has (vM av) r k) n) d k = cnt (fun k => !anyB (fun r => has (vM av) r k) n) 32 0 → J 4 [(0, .ref G.1), (1, .int (nI t)), (2, .int (nI k))] [] iv av := by
  have hn12 := hV.1
  intro d
  induction d with
  | zero =>
    intro k t hi ht hc
    refine g_iload_n hJ d_M_open_4 rfl ?_
    refine g_bipush hJ (v := nI 32) d_M_open_5 (by decide) ?_
    refine g_n_ge hJ (tgt := 62) d_M_open_7 (by decide) (by omega) (by omega) (fun _ => ?_) (fun q => absurd q (by omega))
    refine g_iload_n hJ d_M_open_62 rfl ?_
    exact hret _ _ _ _ _ d_M_open_63 rfl (hp _ (by rw [← hc]; rfl))
  | succ d ih =>
    intro k t hi ht hc
    refine g_iload_n hJ d_M_open_4 rfl ?_
    refine g_bipush hJ (v := nI 32) d_M_open_5 (by decide) ?_
    refine g_n_ge hJ (tgt := 62) d_M_open_7 (by decide) (by omega) (by omega) (fun q => absurd q (by omega)) (fun _ => ?_)
    refine g_iconst hJ (v := nI 0) d_M_open_10 (by decide) ?_
    refine g_istore_n hJ (lv2 := [(0, .ref G.1), (1, .int (nI t)), (2, .int (nI k)), (3, .int (nI 0))]) d_M_open_11 (by decide) rfl rfl ?_
    refine g_iconst hJ (v := nI 0) d_M_open_12 (by decide) ?_
    refine g_istore hJ (lv2 := [(0, .ref G.1), (1, .int (nI t)), (2, .int (nI k)), (3, .int (nI 0)), (4, .int (nI 0))]) d_M_open_13 (by decide) rfl rfl ?_
    refine l_M_open_in (iv := iv) (av := av) (n := n) (t := t) (k := k) (post := post) hJ hn hV (by omega) ?_ n 0 (by omega)
    refine g_iload_n hJ d_M_open_49 rfl ?_
    refine g_bne hJ (tgt := 56) d_M_open_50 (by decide) (fun c => ?_) (fun c => ?_)
    · refine g_inc hJ (lv2 := [(0, .ref G.1), (1, .int (nI t)), (2, .int (nI (k + 1))), (3, .int (b2 (anyB (fun r => has (vM av) r k) n))), (4, .int (nI n))]) d_M_open_56 rfl (by decide) rfl rfl ?_
      refine g_goto hJ (tgt := 4) d_M_open_59 (by decide) ?_
      refine g_drop hJ (lv2 := [(0, .ref G.1), (1, .int (nI t)), (2, .int (nI (k + 1)))]) (ex := [(3, .int (b2 (anyB (fun r => has (vM av) r k) n))), (4, .int (nI n))]) rfl ?_
      exact ih (k + 1) t (by omega) (by omega) (by rw [cnt_f (p := fun k => !anyB (fun r => has (vM av) r k) n) (by (try dsimp only); rw [c]; rfl)] at hc; exact hc)
    · refine g_inc hJ (lv2 := [(0, .ref G.1), (1, .int (nI (t + 1))), (2, .int (nI k)), (3, .int (b2 (anyB (fun r => has (vM av) r k) n))), (4, .int (nI n))]) d_M_open_53 rfl (by decide) rfl rfl ?_
      refine g_inc hJ (lv2 := [(0, .ref G.1), (1, .int (nI (t + 1))), (2, .int (nI (k + 1))), (3, .int (b2 (anyB (fun r => has (vM av) r k) n))), (4, .int (nI n))]) d_M_open_56 rfl (by decide) rfl rfl ?_
      refine g_goto hJ (tgt := 4) d_M_open_59 (by decide) ?_
      refine g_drop hJ (lv2 := [(0, .ref G.1), (1, .int (nI (t + 1))), (2, .int (nI (k + 1)))]) (ex := [(3, .int (b2 (anyB (fun r => has (vM av) r k) n))), (4, .int (nI n))]) rfl ?_
      exact ih (k + 1) (t + 1) (by omega) (by omega) (by rw [cnt_t (p := fun k => !anyB (fun r => has (vM av) r k) n) (by (try dsimp only); rw [c]; rfl)] at hc; omega)
set_option maxHeartbeats 4000000 in
set_option maxRecDepth 100000 in
theorem c_M_open (G : gG) (l : Launch) (iv : Nat → Int32) (av : Nat → Nat → Int32) (n : Nat) (hn : iv 6 = nI n) (hV : RVal n (vM av)) : gM true G l y_M_open b_M_open 5 (gRm 1 22) .int [] iv av (fun r u => r = q_open (vM av) n ∧ u = (iv, av)) := by
  refine g_met rfl (Nat.le_of_ble_eq_true rfl) (fun J hJ hret => ?_)
  refine g_lv (lv2 := [(0, .ref G.1)]) rfl ?_
  refine g_iconst hJ (v := nI 0) d_M_open_0 (by decide) ?_
  refine g_istore_n hJ (lv2 := [(0, .ref G.1), (1, .int (nI 0))]) d_M_open_1 (by decide) rfl rfl ?_
  refine g_iconst hJ (v := nI 0) d_M_open_2 (by decide) ?_
  refine g_istore_n hJ (lv2 := [(0, .ref G.1), (1, .int (nI 0)), (2, .int (nI 0))]) d_M_open_3 (by decide) rfl rfl ?_
  exact l_M_open (post := fun r u => r = q_open (vM av) n ∧ u = (iv, av)) hJ hret hn hV (fun v hv => ⟨hv, rfl⟩) 32 0 0 (by omega) (by omega) (by rw [Nat.zero_add])
end
section
-- what the commands answer, and rules that move (no program in sight)
def q_range (x y : Int32) : Int32 := if (inB 32 x && inB 32 y) = true then (if y < x then -2 else nI 0) else -1
def ok_range (x y : Int32) : Bool := inB 32 x && inB 32 y && !decide (y < x)
def ok_what (w : Int32) : Bool := inB 16 w && !decide (ix w % 8 = 7)
def q_cond (s w : Int32) : Int32 := if inB 2 s = true then (if ok_what w = true then nI 0 else -2) else -1
def q_put (n : Nat) (x a : Int32) : Int32 := if inB (n + 1) x = true then (if inB 4 a = true then (if n < 12 then nI (n + 1) else -3) else -2) else -1
def ok_put (n : Nat) (x a : Int32) : Bool := inB (n + 1) x && inB 4 a && decide (n < 12)
def q_remove (n : Nat) (act : Nat → Int32) (x : Int32) : Int32 := if inB n x = true then act (ix x) else -1
def q_move (n : Nat) (x y : Int32) : Int32 := if inB n x = true then (if inB n y = true then nI 0 else -2) else -1
def q_change (n : Nat) (act : Nat → Int32) (x a : Int32) : Int32 := if inB n x = true then (if inB 4 a = true then act (ix x) else -2) else -1
def q_fallback (other a : Int32) : Int32 := if inB 4 a = true then other else -1
def q_arg (x : Int32) : Int32 := if inB 2 x = true then nI 0 else -1
/-- one rule copied: p says which array holds what -/
def cpG (p : Nat → Nat) (a0 : Nat → Nat → Int32) (i j : Nat) : Nat → Nat → Int32 :=
  let a1 := up2 a0 (p 0) j (a0 (p 0) i)
  let a2 := up2 a1 (p 1) j (a1 (p 1) i)
  let a3 := up2 a2 (p 5) j (a2 (p 5) i)
  let a4 := up2 a3 (p 2) (2 * j) (a3 (p 2) (2 * i))
  let a5 := up2 a4 (p 3) (2 * j) (a4 (p 3) (2 * i))
  let a6 := up2 a5 (p 4) (2 * j) (a5 (p 4) (2 * i))
  let a7 := up2 a6 (p 2) (2 * j + 1) (a6 (p 2) (2 * i + 1))
  let a8 := up2 a7 (p 3) (2 * j + 1) (a7 (p 3) (2 * i + 1))
  up2 a8 (p 4) (2 * j + 1) (a8 (p 4) (2 * i + 1))
def pX (j : Nat) : Nat := j
def pM (j : Nat) : Nat := match j with
  | 0 => 0
  | 1 => 1
  | 2 => 3
  | 3 => 4
  | 4 => 5
  | _ => 2
/-- rules from q on move up by one, d of them, the last first -/
def shG (p : Nat → Nat) (av : Nat → Nat → Int32) (q : Nat) : Nat → (Nat → Nat → Int32)
  | 0 => av
  | d + 1 => shG p (cpG p av (q + d) (q + d + 1)) q d
/-- d rules behind q move down by one -/
def sdG (p : Nat → Nat) (av : Nat → Nat → Int32) : Nat → Nat → (Nat → Nat → Int32)
  | _, 0 => av
  | q, d + 1 => sdG p (cpG p av (q + 1) q) (q + 1) d
/-- a rule's nine numbers -/
def ru (V : Nat → Nat → Int32) (r t : Nat) : Int32 := match t with
  | 0 => V 0 r
  | 1 => V 1 r
  | 2 => V 5 r
  | 3 => V 2 (2 * r)
  | 4 => V 2 (2 * r + 1)
  | 5 => V 3 (2 * r)
  | 6 => V 3 (2 * r + 1)
  | 7 => V 4 (2 * r)
  | _ => V 4 (2 * r + 1)
theorem par1 (a b : Nat) : (2 * a + 1 = 2 * b) = False := eq_false (by omega)
theorem par2 (a b : Nat) : (2 * a = 2 * b + 1) = False := eq_false (by omega)
theorem par3 (a b : Nat) : (2 * a = 2 * b) = (a = b) := propext (by omega)
theorem par4 (a b : Nat) : (2 * a + 1 = 2 * b + 1) = (a = b) := propext (by omega)
theorem cpX_ru (av : Nat → Nat → Int32) (i j r t : Nat) : ru (vX (cpG pX av i j)) r t = if r = j then ru (vX av) i t else ru (vX av) r t := by
  unfold cpG
  match t with
  | 0 => simp [ru, vX, pX, up2_at]
  | 1 => simp [ru, vX, pX, up2_at]
  | 2 => simp [ru, vX, pX, up2_at]
  | 3 => simp [ru, vX, pX, up2_at, par1, par2, par3, par4]
  | 4 => simp [ru, vX, pX, up2_at, par1, par2, par3, par4]
  | 5 => simp [ru, vX, pX, up2_at, par1, par2, par3, par4]
  | 6 => simp [ru, vX, pX, up2_at, par1, par2, par3, par4]
  | 7 => simp [ru, vX, pX, up2_at, par1, par2, par3, par4]
  | t + 8 => simp [ru, vX, pX, up2_at, par1, par2, par3, par4]
theorem cpM_ru (av : Nat → Nat → Int32) (i j r t : Nat) : ru (vM (cpG pM av i j)) r t = if r = j then ru (vM av) i t else ru (vM av) r t := by
  unfold cpG
  match t with
  | 0 => simp [ru, vM, pM, up2_at]
  | 1 => simp [ru, vM, pM, up2_at]
  | 2 => simp [ru, vM, pM, up2_at]
  | 3 => simp [ru, vM, pM, up2_at, par1, par2, par3, par4]
  | 4 => simp [ru, vM, pM, up2_at, par1, par2, par3, par4]
  | 5 => simp [ru, vM, pM, up2_at, par1, par2, par3, par4]
  | 6 => simp [ru, vM, pM, up2_at, par1, par2, par3, par4]
  | 7 => simp [ru, vM, pM, up2_at, par1, par2, par3, par4]
  | t + 8 => simp [ru, vM, pM, up2_at, par1, par2, par3, par4]
theorem cpG_o (p : Nat → Nat) (hp : ∀ t, t < 6 → p t ≤ 5) (av : Nat → Nat → Int32) (i j k : Nat) (h : 5 < k) : cpG p av i j k = av k := by
  have h0 := hp 0 (by decide)
  have h1 := hp 1 (by decide)
  have h2 := hp 2 (by decide)
  have h3 := hp 3 (by decide)
  have h4 := hp 4 (by decide)
  have h5 := hp 5 (by decide)
  unfold cpG
  repeat rw [up2_k (by omega)]
theorem cpX_o (av : Nat → Nat → Int32) (i j k : Nat) (h : 5 < k) : cpG pX av i j k = av k := cpG_o pX (by decide) av i j k h
theorem cpM_o (av : Nat → Nat → Int32) (i j k : Nat) (h : 5 < k) : cpG pM av i j k = av k := cpG_o pM (by decide) av i j k h
end
section
-- the reference: its commands (by m3.py)
set_option maxHeartbeats 4000000 in
set_option maxRecDepth 100000 in
theorem c_M_copy (G : gG) (l : Launch) (iv : Nat → Int32) (av : Nat → Nat → Int32) (i j : Nat) (hi : i < 14) (hj : j < 14) : gMv true G l y_M_copy b_M_copy 4 (gRm 0 0) [.int (nI i), .int (nI j)] iv av (fun u => u = (iv, cpG pM av i j)) := by
  refine g_metv rfl (Nat.le_of_ble_eq_true rfl) (fun J hJ hret => ?_)
  refine g_lv (lv2 := [(0, .ref G.1), (1, .int (nI i)), (2, .int (nI j))]) rfl ?_
  refine g_ga hJ fl_M_0 (n := 14) rfl d_M_copy_0 d_M_copy_1 rfl ?_
  refine g_iload_n hJ d_M_copy_4 rfl ?_
  refine g_ga hJ fl_M_0 (n := 14) rfl d_M_copy_5 d_M_copy_6 rfl ?_
  refine g_iload_n hJ d_M_copy_9 rfl ?_
  refine g_iald hJ (k := 0) (n := 14) rfl (by decide) (by omega) d_M_copy_10 ?_
  refine g_iast hJ (k := 0) (n := 14) rfl (by decide) (by omega) d_M_copy_11 ?_
  refine g_ga hJ fl_M_1 (n := 14) rfl d_M_copy_12 d_M_copy_13 rfl ?_
  refine g_iload_n hJ d_M_copy_16 rfl ?_
  refine g_ga hJ fl_M_1 (n := 14) rfl d_M_copy_17 d_M_copy_18 rfl ?_
  refine g_iload_n hJ d_M_copy_21 rfl ?_
  refine g_iald hJ (k := 1) (n := 14) rfl (by decide) (by omega) d_M_copy_22 ?_
  refine g_iast hJ (k := 1) (n := 14) rfl (by decide) (by omega) d_M_copy_23 ?_
  refine g_ga hJ fl_M_2 (n := 14) rfl d_M_copy_24 d_M_copy_25 rfl ?_
  refine g_iload_n hJ d_M_copy_28 rfl ?_
  refine g_ga hJ fl_M_2 (n := 14) rfl d_M_copy_29 d_M_copy_30 rfl ?_
  refine g_iload_n hJ d_M_copy_33 rfl ?_
  refine g_iald hJ (k := 2) (n := 14) rfl (by decide) (by omega) d_M_copy_34 ?_
  refine g_iast hJ (k := 2) (n := 14) rfl (by decide) (by omega) d_M_copy_35 ?_
  refine g_iconst hJ (v := nI 0) d_M_copy_36 (by decide) ?_
  refine g_istore_n hJ (lv2 := [(0, .ref G.1), (1, .int (nI i)), (2, .int (nI j)), (3, .int (nI 0))]) d_M_copy_37 (by decide) rfl rfl ?_
  refine g_iload_n hJ d_M_copy_38 rfl ?_
  refine g_iconst hJ (v := nI 2) d_M_copy_39 (by decide) ?_
  refine g_n_ge hJ (tgt := 109) d_M_copy_40 (by decide) (by decide) (by decide) (fun q => absurd q (by decide)) (fun _ => ?_)
  refine g_ga hJ fl_M_3 (n := 28) rfl d_M_copy_43 d_M_copy_44 rfl ?_
  refine g_iconst hJ (v := nI 2) d_M_copy_47 (by decide) ?_
  refine g_iload_n hJ d_M_copy_48 rfl ?_
  refine g_imuln hJ d_M_copy_49 ?_
  refine g_iload_n hJ d_M_copy_50 rfl ?_
  refine g_iaddn hJ d_M_copy_51 ?_
  refine g_ga hJ fl_M_3 (n := 28) rfl d_M_copy_52 d_M_copy_53 rfl ?_
  refine g_iconst hJ (v := nI 2) d_M_copy_56 (by decide) ?_
  refine g_iload_n hJ d_M_copy_57 rfl ?_
  refine g_imuln hJ d_M_copy_58 ?_
  refine g_iload_n hJ d_M_copy_59 rfl ?_
  refine g_iaddn hJ d_M_copy_60 ?_
  refine g_iald hJ (k := 3) (n := 28) rfl (by decide) (by omega) d_M_copy_61 ?_
  refine g_iast hJ (k := 3) (n := 28) rfl (by decide) (by omega) d_M_copy_62 ?_
  refine g_ga hJ fl_M_4 (n := 28) rfl d_M_copy_63 d_M_copy_64 rfl ?_
  refine g_iconst hJ (v := nI 2) d_M_copy_67 (by decide) ?_
  refine g_iload_n hJ d_M_copy_68 rfl ?_
  refine g_imuln hJ d_M_copy_69 ?_
  refine g_iload_n hJ d_M_copy_70 rfl ?_
  refine g_iaddn hJ d_M_copy_71 ?_
  refine g_ga hJ fl_M_4 (n := 28) rfl d_M_copy_72 d_M_copy_73 rfl ?_
  refine g_iconst hJ (v := nI 2) d_M_copy_76 (by decide) ?_
  refine g_iload_n hJ d_M_copy_77 rfl ?_
  refine g_imuln hJ d_M_copy_78 ?_
  refine g_iload_n hJ d_M_copy_79 rfl ?_
  refine g_iaddn hJ d_M_copy_80 ?_
  refine g_iald hJ (k := 4) (n := 28) rfl (by decide) (by omega) d_M_copy_81 ?_
  refine g_iast hJ (k := 4) (n := 28) rfl (by decide) (by omega) d_M_copy_82 ?_
  refine g_ga hJ fl_M_5 (n := 28) rfl d_M_copy_83 d_M_copy_84 rfl ?_
  refine g_iconst hJ (v := nI 2) d_M_copy_87 (by decide) ?_
  refine g_iload_n hJ d_M_copy_88 rfl ?_
  refine g_imuln hJ d_M_copy_89 ?_
  refine g_iload_n hJ d_M_copy_90 rfl ?_
  refine g_iaddn hJ d_M_copy_91 ?_
  refine g_ga hJ fl_M_5 (n := 28) rfl d_M_copy_92 d_M_copy_93 rfl ?_
  refine g_iconst hJ (v := nI 2) d_M_copy_96 (by decide) ?_
  refine g_iload_n hJ d_M_copy_97 rfl ?_
  refine g_imuln hJ d_M_copy_98 ?_
  refine g_iload_n hJ d_M_copy_99 rfl ?_
  refine g_iaddn hJ d_M_copy_100 ?_
  refine g_iald hJ (k := 5) (n := 28) rfl (by decide) (by omega) d_M_copy_101 ?_
  refine g_iast hJ (k := 5) (n := 28) rfl (by decide) (by omega) d_M_copy_102 ?_
  refine g_inc hJ (lv2 := [(0, .ref G.1), (1, .int (nI i)), (2, .int (nI j)), (3, .int (nI 1))]) d_M_copy_103 rfl (by decide) rfl rfl ?_
  refine g_goto hJ (tgt := 38) d_M_copy_106 (by decide) ?_
  refine g_iload_n hJ d_M_copy_38 rfl ?_
  refine g_iconst hJ (v := nI 2) d_M_copy_39 (by decide) ?_
  refine g_n_ge hJ (tgt := 109) d_M_copy_40 (by decide) (by decide) (by decide) (fun q => absurd q (by decide)) (fun _ => ?_)
  refine g_ga hJ fl_M_3 (n := 28) rfl d_M_copy_43 d_M_copy_44 rfl ?_
  refine g_iconst hJ (v := nI 2) d_M_copy_47 (by decide) ?_
  refine g_iload_n hJ d_M_copy_48 rfl ?_
  refine g_imuln hJ d_M_copy_49 ?_
  refine g_iload_n hJ d_M_copy_50 rfl ?_
  refine g_iaddn hJ d_M_copy_51 ?_
  refine g_ga hJ fl_M_3 (n := 28) rfl d_M_copy_52 d_M_copy_53 rfl ?_
  refine g_iconst hJ (v := nI 2) d_M_copy_56 (by decide) ?_
  refine g_iload_n hJ d_M_copy_57 rfl ?_
  refine g_imuln hJ d_M_copy_58 ?_
  refine g_iload_n hJ d_M_copy_59 rfl ?_
  refine g_iaddn hJ d_M_copy_60 ?_
  refine g_iald hJ (k := 3) (n := 28) rfl (by decide) (by omega) d_M_copy_61 ?_
  refine g_iast hJ (k := 3) (n := 28) rfl (by decide) (by omega) d_M_copy_62 ?_
  refine g_ga hJ fl_M_4 (n := 28) rfl d_M_copy_63 d_M_copy_64 rfl ?_
  refine g_iconst hJ (v := nI 2) d_M_copy_67 (by decide) ?_
  refine g_iload_n hJ d_M_copy_68 rfl ?_
  refine g_imuln hJ d_M_copy_69 ?_
  refine g_iload_n hJ d_M_copy_70 rfl ?_
  refine g_iaddn hJ d_M_copy_71 ?_
  refine g_ga hJ fl_M_4 (n := 28) rfl d_M_copy_72 d_M_copy_73 rfl ?_
  refine g_iconst hJ (v := nI 2) d_M_copy_76 (by decide) ?_
  refine g_iload_n hJ d_M_copy_77 rfl ?_
  refine g_imuln hJ d_M_copy_78 ?_
  refine g_iload_n hJ d_M_copy_79 rfl ?_
  refine g_iaddn hJ d_M_copy_80 ?_
  refine g_iald hJ (k := 4) (n := 28) rfl (by decide) (by omega) d_M_copy_81 ?_
  refine g_iast hJ (k := 4) (n := 28) rfl (by decide) (by omega) d_M_copy_82 ?_
  refine g_ga hJ fl_M_5 (n := 28) rfl d_M_copy_83 d_M_copy_84 rfl ?_
  refine g_iconst hJ (v := nI 2) d_M_copy_87 (by decide) ?_
  refine g_iload_n hJ d_M_copy_88 rfl ?_
  refine g_imuln hJ d_M_copy_89 ?_
  refine g_iload_n hJ d_M_copy_90 rfl ?_
  refine g_iaddn hJ d_M_copy_91 ?_
  refine g_ga hJ fl_M_5 (n := 28) rfl d_M_copy_92 d_M_copy_93 rfl ?_
  refine g_iconst hJ (v := nI 2) d_M_copy_96 (by decide) ?_
  refine g_iload_n hJ d_M_copy_97 rfl ?_
  refine g_imuln hJ d_M_copy_98 ?_
  refine g_iload_n hJ d_M_copy_99 rfl ?_
  refine g_iaddn hJ d_M_copy_100 ?_
  refine g_iald hJ (k := 5) (n := 28) rfl (by decide) (by omega) d_M_copy_101 ?_
  refine g_iast hJ (k := 5) (n := 28) rfl (by decide) (by omega) d_M_copy_102 ?_
  refine g_inc hJ (lv2 := [(0, .ref G.1), (1, .int (nI i)), (2, .int (nI j)), (3, .int (nI 2))]) d_M_copy_103 rfl (by decide) rfl rfl ?_
  refine g_goto hJ (tgt := 38) d_M_copy_106 (by decide) ?_
  refine g_iload_n hJ d_M_copy_38 rfl ?_
  refine g_iconst hJ (v := nI 2) d_M_copy_39 (by decide) ?_
  refine g_n_ge hJ (tgt := 109) d_M_copy_40 (by decide) (by decide) (by decide) (fun _ => ?_) (fun q => absurd q (by decide))
  exact hret _ _ _ _ d_M_copy_109 (rfl)
set_option maxHeartbeats 4000000 in
set_option maxRecDepth 100000 in
theorem l_M_insert {G : gG} {l : Launch} {J : gJT} {post : gS → Prop} {iv : Nat → Int32} {q f : Nat} (hJ : gR true G l (gRm 1 23) b_M_insert 4 J)   :
    ∀ (d : Nat) (av : Nat → Nat → Int32), q + d ≤ 11 → J 30 [(0, .ref G.1), (1, .int (nI q)), (2, .int (nI f)), (3, .int (nI q))] [] iv (shG pM av q d) → J 5 [(0, .ref G.1), (1, .int (nI q)), (2, .int (nI f)), (3, .int (nI (q + d)))] [] iv av := by
  intro d
  induction d with
  | zero =>
    intro av hd nx
    refine g_iload_n hJ d_M_insert_5 rfl ?_
    refine g_iload_n hJ d_M_insert_6 rfl ?_
    refine g_n_le hJ (tgt := 30) d_M_insert_7 (by decide) (by omega) (by omega) (fun _ => ?_) (fun q => absurd q (by omega))
    exact nx
  | succ d ih =>
    intro av hd nx
    refine g_lv (lv2 := [(0, .ref G.1), (1, .int (nI q)), (2, .int (nI f)), (3, .int (nI (q + d + 1)))]) rfl ?_
    refine g_iload_n hJ d_M_insert_5 rfl ?_
    refine g_iload_n hJ d_M_insert_6 rfl ?_
    refine g_n_le hJ (tgt := 30) d_M_insert_7 (by decide) (by omega) (by omega) (fun q => absurd q (by omega)) (fun _ => ?_)
    refine g_iload_n hJ d_M_insert_10 rfl ?_
    refine g_bipush hJ (v := nI 11) d_M_insert_11 (by decide) ?_
    refine g_n_gt hJ (tgt := 30) d_M_insert_13 (by decide) (by omega) (by omega) (fun q => absurd q (by omega)) (fun _ => ?_)
    refine g_aload_n hJ d_M_insert_16 rfl ?_
    refine g_iload_n hJ d_M_insert_17 rfl ?_
    refine g_iconst hJ (v := nI 1) d_M_insert_18 (by decide) ?_
    refine g_isubn hJ d_M_insert_19 (by omega) ?_
    refine g_top (show nI (q + d + 1 - 1) = nI (q + d) from rfl) ?_
    refine g_iload_n hJ d_M_insert_20 rfl ?_
    refine g_callv hJ k_M_M_copy (c_M_copy G l iv av (q + d) (q + d + 1) (by omega) (by omega)) (by decide) (by decide) rfl (rest := []) rfl (Nat.le_of_ble_eq_true rfl) d_M_insert_21 (fun u hu => ?_)
    subst hu
    dsimp only
    refine g_dec hJ (lv2 := [(0, .ref G.1), (1, .int (nI q)), (2, .int (nI f)), (3, .int (nI (q + d)))]) d_M_insert_24 rfl (by decide) rfl rfl ?_
    refine g_goto hJ (tgt := 5) d_M_insert_27 (by decide) ?_
    exact ih _ (by omega) nx
set_option maxHeartbeats 4000000 in
set_option maxRecDepth 100000 in
theorem c_M_insert (G : gG) (l : Launch) (iv : Nat → Int32) (av : Nat → Nat → Int32) (n q f : Nat) (hn : iv 6 = nI n) (hn11 : n ≤ 11) (hq : q ≤ n) (hf : f < 14) : gMv true G l y_M_insert b_M_insert 4 (gRm 1 23) [.int (nI q), .int (nI f)] iv av (fun u => u = (upd iv 6 (nI (n + 1)), cpG pM (shG pM av q (n - q)) f q)) := by
  refine g_metv rfl (Nat.le_of_ble_eq_true rfl) (fun J hJ hret => ?_)
  refine g_lv (lv2 := [(0, .ref G.1), (1, .int (nI q)), (2, .int (nI f))]) rfl ?_
  have e : q + (n - q) = n := by omega
  refine g_gi hJ fl_M_6 rfl d_M_insert_0 d_M_insert_1 rfl ?_
  refine g_top (hn) ?_
  refine g_istore_n hJ (lv2 := [(0, .ref G.1), (1, .int (nI q)), (2, .int (nI f)), (3, .int (nI n))]) d_M_insert_4 (by decide) rfl rfl ?_
  have K := l_M_insert (post := fun _ => True) (q := q) (f := f) (iv := iv) hJ (n - q) av (by omega)
  rw [e] at K
  refine K ?_
  refine g_aload_n hJ d_M_insert_30 rfl ?_
  refine g_iload_n hJ d_M_insert_31 rfl ?_
  refine g_iload_n hJ d_M_insert_32 rfl ?_
  refine g_callv hJ k_M_M_copy (c_M_copy G l iv (shG pM av q (n - q)) f q (by omega) (by omega)) (by decide) (by decide) rfl (rest := []) rfl (Nat.le_of_ble_eq_true rfl) d_M_insert_33 (fun u hu => ?_)
  subst hu
  dsimp only
  refine g_aload_n hJ d_M_insert_36 rfl ?_
  refine g_dup hJ d_M_insert_37 rfl ?_
  refine g_geti hJ fl_M_6 rfl d_M_insert_38 ?_
  refine g_top (hn) ?_
  refine g_iconst hJ (v := nI 1) d_M_insert_41 (by decide) ?_
  refine g_iaddn hJ d_M_insert_42 ?_
  refine g_put hJ fl_M_6 rfl (pt_M_6 _) d_M_insert_43 ?_
  exact hret _ _ _ _ d_M_insert_46 (rfl)
set_option maxHeartbeats 4000000 in
set_option maxRecDepth 100000 in
theorem l_M_takeOut {G : gG} {l : Launch} {J : gJT} {post : gS → Prop} {iv : Nat → Int32} {n q0 : Nat} (hJ : gR true G l (gRm 1 23) b_M_takeOut 3 J)  (hn : iv 6 = nI n) (hn12 : n ≤ 12) :
    ∀ (d q : Nat) (av : Nat → Nat → Int32), q + d + 1 = n → J 32 [(0, .ref G.1), (1, .int (nI q0)), (2, .int (nI (q + d)))] [] iv (sdG pM av q d) → J 2 [(0, .ref G.1), (1, .int (nI q0)), (2, .int (nI q))] [] iv av := by
  intro d
  induction d with
  | zero =>
    intro q av hd nx
    refine g_iload_n hJ d_M_takeOut_2 rfl ?_
    refine g_gi hJ fl_M_6 rfl d_M_takeOut_3 d_M_takeOut_4 rfl ?_
    refine g_top (hn) ?_
    refine g_iconst hJ (v := nI 1) d_M_takeOut_7 (by decide) ?_
    refine g_isubn hJ d_M_takeOut_8 (by omega) ?_
    refine g_n_ge hJ (tgt := 32) d_M_takeOut_9 (by decide) (by omega) (by omega) (fun _ => ?_) (fun q => absurd q (by omega))
    exact nx
  | succ d ih =>
    intro q av hd nx
    refine g_iload_n hJ d_M_takeOut_2 rfl ?_
    refine g_gi hJ fl_M_6 rfl d_M_takeOut_3 d_M_takeOut_4 rfl ?_
    refine g_top (hn) ?_
    refine g_iconst hJ (v := nI 1) d_M_takeOut_7 (by decide) ?_
    refine g_isubn hJ d_M_takeOut_8 (by omega) ?_
    refine g_n_ge hJ (tgt := 32) d_M_takeOut_9 (by decide) (by omega) (by omega) (fun q => absurd q (by omega)) (fun _ => ?_)
    refine g_iload_n hJ d_M_takeOut_12 rfl ?_
    refine g_bipush hJ (v := nI 11) d_M_takeOut_13 (by decide) ?_
    refine g_n_ge hJ (tgt := 32) d_M_takeOut_15 (by decide) (by omega) (by omega) (fun q => absurd q (by omega)) (fun _ => ?_)
    refine g_aload_n hJ d_M_takeOut_18 rfl ?_
    refine g_iload_n hJ d_M_takeOut_19 rfl ?_
    refine g_iconst hJ (v := nI 1) d_M_takeOut_20 (by decide) ?_
    refine g_iaddn hJ d_M_takeOut_21 ?_
    refine g_iload_n hJ d_M_takeOut_22 rfl ?_
    refine g_callv hJ k_M_M_copy (c_M_copy G l iv av (q + 1) q (by omega) (by omega)) (by decide) (by decide) rfl (rest := []) rfl (Nat.le_of_ble_eq_true rfl) d_M_takeOut_23 (fun u hu => ?_)
    subst hu
    dsimp only
    refine g_inc hJ (lv2 := [(0, .ref G.1), (1, .int (nI q0)), (2, .int (nI (q + 1)))]) d_M_takeOut_26 rfl (by decide) rfl rfl ?_
    refine g_goto hJ (tgt := 2) d_M_takeOut_29 (by decide) ?_
    refine ih (q + 1) _ (by omega) ?_
    rw [show q + 1 + d = q + (d + 1) by omega]
    exact nx
set_option maxHeartbeats 4000000 in
set_option maxRecDepth 100000 in
theorem c_M_takeOut (G : gG) (l : Launch) (iv : Nat → Int32) (av : Nat → Nat → Int32) (n q : Nat) (hn : iv 6 = nI n) (hn12 : n ≤ 12) (hq : q < n) : gMv true G l y_M_takeOut b_M_takeOut 3 (gRm 1 23) [.int (nI q)] iv av (fun u => u = (upd iv 6 (nI (n - 1)), sdG pM av q (n - 1 - q))) := by
  refine g_metv rfl (Nat.le_of_ble_eq_true rfl) (fun J hJ hret => ?_)
  refine g_lv (lv2 := [(0, .ref G.1), (1, .int (nI q))]) rfl ?_
  refine g_iload_n hJ d_M_takeOut_0 rfl ?_
  refine g_istore_n hJ (lv2 := [(0, .ref G.1), (1, .int (nI q)), (2, .int (nI q))]) d_M_takeOut_1 (by decide) rfl rfl ?_
  refine l_M_takeOut (post := fun _ => True) hJ hn hn12 (n - 1 - q) q av (by omega) ?_
  refine g_aload_n hJ d_M_takeOut_32 rfl ?_
  refine g_dup hJ d_M_takeOut_33 rfl ?_
  refine g_geti hJ fl_M_6 rfl d_M_takeOut_34 ?_
  refine g_top (hn) ?_
  refine g_iconst hJ (v := nI 1) d_M_takeOut_37 (by decide) ?_
  refine g_isubn hJ d_M_takeOut_38 (by omega) ?_
  refine g_put hJ fl_M_6 rfl (pt_M_6 _) d_M_takeOut_39 ?_
  exact hret _ _ _ _ d_M_takeOut_42 (rfl)
set_option maxHeartbeats 4000000 in
set_option maxRecDepth 100000 in
theorem c_M_put (G : gG) (l : Launch) (iv : Nat → Int32) (av : Nat → Nat → Int32) (n : Nat) (hn : iv 6 = nI n) (hn12 : n ≤ 12) (x a : Int32) : gM true G l y_M_put b_M_put 3 (gRm 2 46) .int [.int x, .int a] iv av (fun r u => r = q_put n x a ∧ u = if ok_put n x a = true then (upd iv 6 (nI (n + 1)), cpG pM (shG pM (up2 av 2 12 a) (ix x) (n - ix x)) 12 (ix x)) else (iv, av)) := by
  refine g_met rfl (Nat.le_of_ble_eq_true rfl) (fun J hJ hret => ?_)
  refine g_lv (lv2 := [(0, .ref G.1), (1, .int x), (2, .int a)]) rfl ?_
  refine g_iload_n hJ d_M_put_0 rfl ?_
  refine g_if_lt hJ (tgt := 12) d_M_put_1 (by decide) (fun c1 => ?_) (fun c1 => ?_)
  · refine g_iconst hJ (v := -1) d_M_put_12 (by decide) ?_
    exact hret _ _ _ _ _ d_M_put_13 rfl (⟨by unfold q_put; rw [inB_neg c1]; rfl, by unfold ok_put; rw [inB_neg c1]; rfl⟩)
  · refine g_iload_n hJ d_M_put_4 rfl ?_
    refine g_gi hJ fl_M_6 rfl d_M_put_5 d_M_put_6 rfl ?_
    refine g_top (hn) ?_
    refine g_icmp_le hJ (tgt := 14) d_M_put_9 (by decide) (fun c2 => ?_) (fun c2 => ?_)
    · have hi := inB_le (m := n) (by omega) c1 c2
      obtain ⟨k, hk, hk31, rfl⟩ := inB_of hi
      refine g_aload_n hJ d_M_put_14 rfl ?_
      refine g_iload_n hJ d_M_put_15 rfl ?_
      refine g_call hJ k_M_M_badAction (c_M_badAction G l iv av a) (by decide) (by decide) rfl (rest := []) rfl (Nat.le_of_ble_eq_true rfl) d_M_put_16 (fun r u hu => ?_)
      obtain ⟨rfl, rfl⟩ := hu
      dsimp only
      refine g_beq hJ (tgt := 25) d_M_put_19 (by decide) (fun c3 => ?_) (fun c3 => ?_)
      · refine g_gi hJ fl_M_6 rfl d_M_put_25 d_M_put_26 rfl ?_
        refine g_top (hn) ?_
        refine g_bipush hJ (v := nI 12) d_M_put_29 (by decide) ?_
        refine g_n_lt hJ (tgt := 37) d_M_put_31 (by decide) (by omega) (by omega) (fun c4 => ?_) (fun c4 => ?_)
        · refine g_ga hJ fl_M_2 (n := 14) rfl d_M_put_37 d_M_put_38 rfl ?_
          refine g_bipush hJ (v := nI 12) d_M_put_41 (by decide) ?_
          refine g_iload_n hJ d_M_put_43 rfl ?_
          refine g_iast hJ (k := 2) (n := 14) rfl (by decide) (by omega) d_M_put_44 ?_
          refine g_aload_n hJ d_M_put_45 rfl ?_
          refine g_iload_n hJ d_M_put_46 rfl ?_
          refine g_bipush hJ (v := nI 12) d_M_put_47 (by decide) ?_
          refine g_callv hJ k_M_M_insert (c_M_insert G l iv (up2 av 2 12 a) n k 12 hn (by omega) (by omega) (by decide)) (by decide) (by decide) rfl (rest := []) rfl (Nat.le_of_ble_eq_true rfl) d_M_put_49 (fun u hu => ?_)
          subst hu
          dsimp only
          refine g_gi hJ fl_M_6 rfl d_M_put_52 d_M_put_53 rfl ?_
          refine g_top (show upd iv 6 (nI (n + 1)) 6 = nI (n + 1) from pk_us) ?_
          exact hret _ _ _ _ _ d_M_put_56 rfl (⟨by unfold q_put; rw [hi, if_pos rfl, if_pos (by simpa using c3), if_pos c4], by unfold ok_put; rw [hi, show inB 4 a = true by simpa using c3, decide_eq_true c4, ix_nI hk31]; rfl⟩)
        · refine g_bipush hJ (v := -3) d_M_put_34 (by decide) ?_
          exact hret _ _ _ _ _ d_M_put_36 rfl (⟨by unfold q_put; rw [hi, if_pos rfl, if_pos (by simpa using c3), if_neg (by omega)], by unfold ok_put; rw [decide_eq_false (show ¬ n < 12 by omega), Bool.and_false]; rfl⟩)
      · refine g_bipush hJ (v := -2) d_M_put_22 (by decide) ?_
        exact hret _ _ _ _ _ d_M_put_24 rfl (⟨by unfold q_put; rw [hi, if_pos rfl, nb_not c3]; rfl, by unfold ok_put; rw [nb_not c3, Bool.and_false]; rfl⟩)
    · refine g_iconst hJ (v := -1) d_M_put_12 (by decide) ?_
      exact hret _ _ _ _ _ d_M_put_13 rfl (⟨by unfold q_put; rw [inB_nle (by omega) c2]; rfl, by unfold ok_put; rw [inB_nle (by omega) c2]; rfl⟩)
set_option maxHeartbeats 4000000 in
set_option maxRecDepth 100000 in
theorem c_M_remove (G : gG) (l : Launch) (iv : Nat → Int32) (av : Nat → Nat → Int32) (n : Nat) (hn : iv 6 = nI n) (hn12 : n ≤ 12) (x : Int32) : gM true G l y_M_remove b_M_remove 3 (gRm 2 45) .int [.int x] iv av (fun r u => r = q_remove n (vM av 5) x ∧ u = if inB n x = true then (upd iv 6 (nI (n - 1)), sdG pM av (ix x) (n - 1 - ix x)) else (iv, av)) := by
  refine g_met rfl (Nat.le_of_ble_eq_true rfl) (fun J hJ hret => ?_)
  refine g_lv (lv2 := [(0, .ref G.1), (1, .int x)]) rfl ?_
  refine g_aload_n hJ d_M_remove_0 rfl ?_
  refine g_iload_n hJ d_M_remove_1 rfl ?_
  refine g_call hJ k_M_M_badRule (c_M_badRule G l iv av n hn hn12 x) (by decide) (by decide) rfl (rest := []) rfl (Nat.le_of_ble_eq_true rfl) d_M_remove_2 (fun r u hu => ?_)
  obtain ⟨rfl, rfl⟩ := hu
  dsimp only
  refine g_beq hJ (tgt := 10) d_M_remove_5 (by decide) (fun c1 => ?_) (fun c1 => ?_)
  · obtain ⟨k, hk, hk31, rfl⟩ := nb_of c1
    refine g_ga hJ fl_M_2 (n := 14) rfl d_M_remove_10 d_M_remove_11 rfl ?_
    refine g_iload_n hJ d_M_remove_14 rfl ?_
    refine g_iald hJ (k := 2) (n := 14) rfl (by decide) (by omega) d_M_remove_15 ?_
    refine g_istore_n hJ (lv2 := [(0, .ref G.1), (1, .int (nI k)), (2, .int (av 2 k))]) d_M_remove_16 (by decide) rfl rfl ?_
    refine g_aload_n hJ d_M_remove_17 rfl ?_
    refine g_iload_n hJ d_M_remove_18 rfl ?_
    refine g_callv hJ k_M_M_takeOut (c_M_takeOut G l iv av n k hn hn12 hk) (by decide) (by decide) rfl (rest := []) rfl (Nat.le_of_ble_eq_true rfl) d_M_remove_19 (fun u hu => ?_)
    subst hu
    dsimp only
    refine g_iload_n hJ d_M_remove_22 rfl ?_
    exact hret _ _ _ _ _ d_M_remove_23 rfl (⟨by unfold q_remove; rw [inB_t hk hk31, if_pos rfl, ix_nI hk31]; rfl, by rw [inB_t hk hk31, if_pos rfl, ix_nI hk31]⟩)
  · refine g_iconst hJ (v := -1) d_M_remove_8 (by decide) ?_
    exact hret _ _ _ _ _ d_M_remove_9 rfl (⟨by unfold q_remove; rw [nb_not c1]; rfl, by rw [nb_not c1]; rfl⟩)
set_option maxHeartbeats 4000000 in
set_option maxRecDepth 100000 in
theorem c_M_move (G : gG) (l : Launch) (iv : Nat → Int32) (av : Nat → Nat → Int32) (n : Nat) (hn : iv 6 = nI n) (hn12 : n ≤ 12) (x y : Int32) : gM true G l y_M_move b_M_move 3 (gRm 2 46) .int [.int x, .int y] iv av (fun r u => r = q_move n x y ∧ u = if (inB n x && inB n y) = true then (upd (upd iv 6 (nI (n - 1))) 6 (nI (n - 1 + 1)), cpG pM (shG pM (sdG pM (cpG pM av (ix x) 13) (ix x) (n - 1 - ix x)) (ix y) (n - 1 - ix y)) 13 (ix y)) else (iv, av)) := by
  refine g_met rfl (Nat.le_of_ble_eq_true rfl) (fun J hJ hret => ?_)
  refine g_lv (lv2 := [(0, .ref G.1), (1, .int x), (2, .int y)]) rfl ?_
  refine g_aload_n hJ d_M_move_0 rfl ?_
  refine g_iload_n hJ d_M_move_1 rfl ?_
  refine g_call hJ k_M_M_badRule (c_M_badRule G l iv av n hn hn12 x) (by decide) (by decide) rfl (rest := []) rfl (Nat.le_of_ble_eq_true rfl) d_M_move_2 (fun r u hu => ?_)
  obtain ⟨rfl, rfl⟩ := hu
  dsimp only
  refine g_beq hJ (tgt := 10) d_M_move_5 (by decide) (fun c1 => ?_) (fun c1 => ?_)
  · obtain ⟨k, hk, hk31, rfl⟩ := nb_of c1
    refine g_aload_n hJ d_M_move_10 rfl ?_
    refine g_iload_n hJ d_M_move_11 rfl ?_
    refine g_call hJ k_M_M_badRule (c_M_badRule G l iv av n hn hn12 y) (by decide) (by decide) rfl (rest := []) rfl (Nat.le_of_ble_eq_true rfl) d_M_move_12 (fun r u hu => ?_)
    obtain ⟨rfl, rfl⟩ := hu
    dsimp only
    refine g_beq hJ (tgt := 21) d_M_move_15 (by decide) (fun c2 => ?_) (fun c2 => ?_)
    · obtain ⟨j, hj, hj31, rfl⟩ := nb_of c2
      refine g_aload_n hJ d_M_move_21 rfl ?_
      refine g_iload_n hJ d_M_move_22 rfl ?_
      refine g_bipush hJ (v := nI 13) d_M_move_23 (by decide) ?_
      refine g_callv hJ k_M_M_copy (c_M_copy G l iv av k 13 (by omega) (by decide)) (by decide) (by decide) rfl (rest := []) rfl (Nat.le_of_ble_eq_true rfl) d_M_move_25 (fun u hu => ?_)
      subst hu
      dsimp only
      refine g_aload_n hJ d_M_move_28 rfl ?_
      refine g_iload_n hJ d_M_move_29 rfl ?_
      refine g_callv hJ k_M_M_takeOut (c_M_takeOut G l iv (cpG pM av k 13) n k hn hn12 hk) (by decide) (by decide) rfl (rest := []) rfl (Nat.le_of_ble_eq_true rfl) d_M_move_30 (fun u hu => ?_)
      subst hu
      dsimp only
      refine g_aload_n hJ d_M_move_33 rfl ?_
      refine g_iload_n hJ d_M_move_34 rfl ?_
      refine g_bipush hJ (v := nI 13) d_M_move_35 (by decide) ?_
      refine g_callv hJ k_M_M_insert (c_M_insert G l (upd iv 6 (nI (n - 1))) (sdG pM (cpG pM av k 13) k (n - 1 - k)) (n - 1) j 13 pk_us (by omega) (by omega) (by decide)) (by decide) (by decide) rfl (rest := []) rfl (Nat.le_of_ble_eq_true rfl) d_M_move_37 (fun u hu => ?_)
      subst hu
      dsimp only
      refine g_iconst hJ (v := nI 0) d_M_move_40 (by decide) ?_
      exact hret _ _ _ _ _ d_M_move_41 rfl (⟨by unfold q_move; rw [inB_t hk hk31, if_pos rfl, inB_t hj hj31, if_pos rfl], by rw [inB_t hk hk31, inB_t hj hj31, Bool.and_self, if_pos rfl, ix_nI hk31, ix_nI hj31]⟩)
    · refine g_bipush hJ (v := -2) d_M_move_18 (by decide) ?_
      exact hret _ _ _ _ _ d_M_move_20 rfl (⟨by unfold q_move; rw [inB_t hk hk31, if_pos rfl, nb_not c2]; rfl, by rw [nb_not c2, Bool.and_false]; rfl⟩)
  · refine g_iconst hJ (v := -1) d_M_move_8 (by decide) ?_
    exact hret _ _ _ _ _ d_M_move_9 rfl (⟨by unfold q_move; rw [nb_not c1]; rfl, by rw [nb_not c1, Bool.false_and]; rfl⟩)
set_option maxHeartbeats 4000000 in
set_option maxRecDepth 100000 in
theorem c_M_change (G : gG) (l : Launch) (iv : Nat → Int32) (av : Nat → Nat → Int32) (n : Nat) (hn : iv 6 = nI n) (hn12 : n ≤ 12) (x a : Int32) : gM true G l y_M_change b_M_change 4 (gRm 1 21) .int [.int x, .int a] iv av (fun r u => r = q_change n (vM av 5) x a ∧ u = if (inB n x && inB 4 a) = true then (iv, up2 av 2 (ix x) a) else (iv, av)) := by
  refine g_met rfl (Nat.le_of_ble_eq_true rfl) (fun J hJ hret => ?_)
  refine g_lv (lv2 := [(0, .ref G.1), (1, .int x), (2, .int a)]) rfl ?_
  refine g_aload_n hJ d_M_change_0 rfl ?_
  refine g_iload_n hJ d_M_change_1 rfl ?_
  refine g_call hJ k_M_M_badRule (c_M_badRule G l iv av n hn hn12 x) (by decide) (by decide) rfl (rest := []) rfl (Nat.le_of_ble_eq_true rfl) d_M_change_2 (fun r u hu => ?_)
  obtain ⟨rfl, rfl⟩ := hu
  dsimp only
  refine g_beq hJ (tgt := 10) d_M_change_5 (by decide) (fun c1 => ?_) (fun c1 => ?_)
  · obtain ⟨k, hk, hk31, rfl⟩ := nb_of c1
    refine g_aload_n hJ d_M_change_10 rfl ?_
    refine g_iload_n hJ d_M_change_11 rfl ?_
    refine g_call hJ k_M_M_badAction (c_M_badAction G l iv av a) (by decide) (by decide) rfl (rest := []) rfl (Nat.le_of_ble_eq_true rfl) d_M_change_12 (fun r u hu => ?_)
    obtain ⟨rfl, rfl⟩ := hu
    dsimp only
    refine g_beq hJ (tgt := 21) d_M_change_15 (by decide) (fun c2 => ?_) (fun c2 => ?_)
    · refine g_ga hJ fl_M_2 (n := 14) rfl d_M_change_21 d_M_change_22 rfl ?_
      refine g_iload_n hJ d_M_change_25 rfl ?_
      refine g_iald hJ (k := 2) (n := 14) rfl (by decide) (by omega) d_M_change_26 ?_
      refine g_istore_n hJ (lv2 := [(0, .ref G.1), (1, .int (nI k)), (2, .int a), (3, .int (av 2 k))]) d_M_change_27 (by decide) rfl rfl ?_
      refine g_ga hJ fl_M_2 (n := 14) rfl d_M_change_28 d_M_change_29 rfl ?_
      refine g_iload_n hJ d_M_change_32 rfl ?_
      refine g_iload_n hJ d_M_change_33 rfl ?_
      refine g_iast hJ (k := 2) (n := 14) rfl (by decide) (by omega) d_M_change_34 ?_
      refine g_iload_n hJ d_M_change_35 rfl ?_
      exact hret _ _ _ _ _ d_M_change_36 rfl (⟨by unfold q_change; rw [inB_t hk hk31, if_pos rfl, if_pos (by simpa using c2), ix_nI hk31]; rfl, by rw [inB_t hk hk31, show inB 4 a = true by simpa using c2, Bool.and_self, if_pos rfl, ix_nI hk31]⟩)
    · refine g_bipush hJ (v := -2) d_M_change_18 (by decide) ?_
      exact hret _ _ _ _ _ d_M_change_20 rfl (⟨by unfold q_change; rw [inB_t hk hk31, if_pos rfl, nb_not c2]; rfl, by rw [nb_not c2, Bool.and_false]; rfl⟩)
  · refine g_iconst hJ (v := -1) d_M_change_8 (by decide) ?_
    exact hret _ _ _ _ _ d_M_change_9 rfl (⟨by unfold q_change; rw [nb_not c1]; rfl, by rw [nb_not c1, Bool.false_and]; rfl⟩)
set_option maxHeartbeats 4000000 in
set_option maxRecDepth 100000 in
theorem c_M_fallback (G : gG) (l : Launch) (iv : Nat → Int32) (av : Nat → Nat → Int32) (a : Int32) : gM true G l y_M_fallback b_M_fallback 3 (gRm 1 21) .int [.int a] iv av (fun r u => r = q_fallback (iv 7) a ∧ u = if inB 4 a = true then (upd iv 7 a, av) else (iv, av)) := by
  refine g_met rfl (Nat.le_of_ble_eq_true rfl) (fun J hJ hret => ?_)
  refine g_lv (lv2 := [(0, .ref G.1), (1, .int a)]) rfl ?_
  refine g_aload_n hJ d_M_fallback_0 rfl ?_
  refine g_iload_n hJ d_M_fallback_1 rfl ?_
  refine g_call hJ k_M_M_badAction (c_M_badAction G l iv av a) (by decide) (by decide) rfl (rest := []) rfl (Nat.le_of_ble_eq_true rfl) d_M_fallback_2 (fun r u hu => ?_)
  obtain ⟨rfl, rfl⟩ := hu
  dsimp only
  refine g_beq hJ (tgt := 10) d_M_fallback_5 (by decide) (fun c2 => ?_) (fun c2 => ?_)
  · refine g_gi hJ fl_M_7 rfl d_M_fallback_10 d_M_fallback_11 rfl ?_
    refine g_istore_n hJ (lv2 := [(0, .ref G.1), (1, .int a), (2, .int (iv 7))]) d_M_fallback_14 (by decide) rfl rfl ?_
    refine g_aload_n hJ d_M_fallback_15 rfl ?_
    refine g_iload_n hJ d_M_fallback_16 rfl ?_
    refine g_put hJ fl_M_7 rfl (pt_M_7 _) d_M_fallback_17 ?_
    refine g_iload_n hJ d_M_fallback_20 rfl ?_
    exact hret _ _ _ _ _ d_M_fallback_21 rfl (⟨by unfold q_fallback; rw [if_pos (by simpa using c2)], by rw [if_pos (by simpa using c2)]⟩)
  · refine g_iconst hJ (v := -1) d_M_fallback_8 (by decide) ?_
    exact hret _ _ _ _ _ d_M_fallback_9 rfl (⟨by unfold q_fallback; rw [nb_not c2]; rfl, by rw [nb_not c2]; rfl⟩)
set_option maxHeartbeats 4000000 in
set_option maxRecDepth 100000 in
theorem c_M_rules (G : gG) (l : Launch) (iv : Nat → Int32) (av : Nat → Nat → Int32)  : gM true G l y_M_rules b_M_rules 1 (gRm 0 0) .int [] iv av (fun r u => r = iv 6 ∧ u = (iv, av)) := by
  refine g_met rfl (Nat.le_of_ble_eq_true rfl) (fun J hJ hret => ?_)
  refine g_lv (lv2 := [(0, .ref G.1)]) rfl ?_
  refine g_gi hJ fl_M_6 rfl d_M_rules_0 d_M_rules_1 rfl ?_
  exact hret _ _ _ _ _ d_M_rules_4 rfl (⟨rfl, rfl⟩)
set_option maxHeartbeats 4000000 in
set_option maxRecDepth 100000 in
theorem c_M_argument (G : gG) (l : Launch) (iv : Nat → Int32) (av : Nat → Nat → Int32) (x v : Int32) : gM true G l y_M_argument b_M_argument 3 (gRm 0 0) .int [.int x, .int v] iv av (fun r u => r = q_arg x ∧ u = if inB 2 x = true then (iv, up2 av 8 (ix x) v) else (iv, av)) := by
  refine g_met rfl (Nat.le_of_ble_eq_true rfl) (fun J hJ hret => ?_)
  refine g_lv (lv2 := [(0, .ref G.1), (1, .int x), (2, .int v)]) rfl ?_
  refine g_iload_n hJ d_M_argument_0 rfl ?_
  refine g_if_lt hJ (tgt := 9) d_M_argument_1 (by decide) (fun c1 => ?_) (fun c1 => ?_)
  · refine g_iconst hJ (v := -1) d_M_argument_9 (by decide) ?_
    exact hret _ _ _ _ _ d_M_argument_10 rfl (⟨by unfold q_arg; rw [inB_neg c1]; rfl, by rw [inB_neg c1]; rfl⟩)
  · refine g_iload_n hJ d_M_argument_4 rfl ?_
    refine g_iconst hJ (v := nI 1) d_M_argument_5 (by decide) ?_
    refine g_icmp_le hJ (tgt := 11) d_M_argument_6 (by decide) (fun c2 => ?_) (fun c2 => ?_)
    · have hi := inB_le (m := 1) (by decide) c1 c2
      obtain ⟨k, hk, hk31, rfl⟩ := inB_of hi
      refine g_ga hJ fl_M_8 (n := 2) rfl d_M_argument_11 d_M_argument_12 rfl ?_
      refine g_iload_n hJ d_M_argument_15 rfl ?_
      refine g_iload_n hJ d_M_argument_16 rfl ?_
      refine g_iast hJ (k := 8) (n := 2) rfl (by decide) (by omega) d_M_argument_17 ?_
      refine g_iconst hJ (v := nI 0) d_M_argument_18 (by decide) ?_
      exact hret _ _ _ _ _ d_M_argument_19 rfl (⟨by unfold q_arg; rw [if_pos hi], by rw [if_pos hi, ix_nI hk31]⟩)
    · refine g_iconst hJ (v := -1) d_M_argument_9 (by decide) ?_
      exact hret _ _ _ _ _ d_M_argument_10 rfl (⟨by unfold q_arg; rw [inB_nle (m := 1) (by decide) c2]; rfl, by rw [inB_nle (m := 1) (by decide) c2]; rfl⟩)
set_option maxHeartbeats 4000000 in
set_option maxRecDepth 100000 in
theorem c_M_range (G : gG) (l : Launch) (iv : Nat → Int32) (av : Nat → Nat → Int32) (x y : Int32) : gM true G l y_M_range b_M_range 3 (gRm 1 21) .int [.int x, .int y] iv av (fun r u => r = q_range x y ∧ u = if ok_range x y = true then (iv, up2 (up2 av 0 12 x) 1 12 y) else (iv, av)) := by
  refine g_met rfl (Nat.le_of_ble_eq_true rfl) (fun J hJ hret => ?_)
  refine g_lv (lv2 := [(0, .ref G.1), (1, .int x), (2, .int y)]) rfl ?_
  refine g_aload_n hJ d_M_range_0 rfl ?_
  refine g_iload_n hJ d_M_range_1 rfl ?_
  refine g_call hJ k_M_M_badNumber (c_M_badNumber G l iv av x) (by decide) (by decide) rfl (rest := []) rfl (Nat.le_of_ble_eq_true rfl) d_M_range_2 (fun r u hu => ?_)
  obtain ⟨rfl, rfl⟩ := hu
  dsimp only
  refine g_bne hJ (tgt := 16) d_M_range_5 (by decide) (fun c1 => ?_) (fun c1 => ?_)
  · refine g_iconst hJ (v := -1) d_M_range_16 (by decide) ?_
    exact hret _ _ _ _ _ d_M_range_17 rfl (⟨by unfold q_range; rw [nb_not c1]; rfl, by unfold ok_range; rw [nb_not c1]; rfl⟩)
  · refine g_aload_n hJ d_M_range_8 rfl ?_
    refine g_iload_n hJ d_M_range_9 rfl ?_
    refine g_call hJ k_M_M_badNumber (c_M_badNumber G l iv av y) (by decide) (by decide) rfl (rest := []) rfl (Nat.le_of_ble_eq_true rfl) d_M_range_10 (fun r u hu => ?_)
    obtain ⟨rfl, rfl⟩ := hu
    dsimp only
    refine g_beq hJ (tgt := 18) d_M_range_13 (by decide) (fun c2 => ?_) (fun c2 => ?_)
    · have h1 : inB 32 x = true := by simpa using c1
      have h2 : inB 32 y = true := by simpa using c2
      refine g_iload_n hJ d_M_range_18 rfl ?_
      refine g_iload_n hJ d_M_range_19 rfl ?_
      refine g_icmp_le hJ (tgt := 26) d_M_range_20 (by decide) (fun c3 => ?_) (fun c3 => ?_)
      · refine g_ga hJ fl_M_0 (n := 14) rfl d_M_range_26 d_M_range_27 rfl ?_
        refine g_bipush hJ (v := nI 12) d_M_range_30 (by decide) ?_
        refine g_iload_n hJ d_M_range_32 rfl ?_
        refine g_iast hJ (k := 0) (n := 14) rfl (by decide) (by omega) d_M_range_33 ?_
        refine g_ga hJ fl_M_1 (n := 14) rfl d_M_range_34 d_M_range_35 rfl ?_
        refine g_bipush hJ (v := nI 12) d_M_range_38 (by decide) ?_
        refine g_iload_n hJ d_M_range_40 rfl ?_
        refine g_iast hJ (k := 1) (n := 14) rfl (by decide) (by omega) d_M_range_41 ?_
        refine g_iconst hJ (v := nI 0) d_M_range_42 (by decide) ?_
        exact hret _ _ _ _ _ d_M_range_43 rfl (⟨by unfold q_range; rw [h1, h2, Bool.and_self, if_pos rfl, if_neg (Int32.not_lt.mpr c3)], by unfold ok_range; rw [h1, h2, decide_eq_false (Int32.not_lt.mpr c3)]; rfl⟩)
      · refine g_bipush hJ (v := -2) d_M_range_23 (by decide) ?_
        exact hret _ _ _ _ _ d_M_range_25 rfl (⟨by unfold q_range; rw [h1, h2, Bool.and_self, if_pos rfl, if_pos (Int32.not_le.mp c3)], by unfold ok_range; rw [decide_eq_true (Int32.not_le.mp c3), Bool.not_true, Bool.and_false]; rfl⟩)
    · refine g_iconst hJ (v := -1) d_M_range_16 (by decide) ?_
      exact hret _ _ _ _ _ d_M_range_17 rfl (⟨by unfold q_range; rw [nb_not c2, Bool.and_false]; rfl, by unfold ok_range; rw [nb_not c2, Bool.and_false]; rfl⟩)
set_option maxHeartbeats 4000000 in
set_option maxRecDepth 100000 in
theorem c_M_condition (G : gG) (l : Launch) (iv : Nat → Int32) (av : Nat → Nat → Int32) (s q m v : Int32) : gM true G l y_M_condition b_M_condition 5 (gRm 0 0) .int [.int s, .int q, .int m, .int v] iv av (fun r u => r = q_cond s q ∧ u = if (inB 2 s && ok_what q) = true then (iv, up2 (up2 (up2 av 3 (24 + ix s) q) 4 (24 + ix s) m) 5 (24 + ix s) v) else (iv, av)) := by
  refine g_met rfl (Nat.le_of_ble_eq_true rfl) (fun J hJ hret => ?_)
  refine g_lv (lv2 := [(0, .ref G.1), (1, .int s), (2, .int q), (3, .int m), (4, .int v)]) rfl ?_
  refine g_iload_n hJ d_M_condition_0 rfl ?_
  refine g_if_lt hJ (tgt := 9) d_M_condition_1 (by decide) (fun c1 => ?_) (fun c1 => ?_)
  · refine g_iconst hJ (v := -1) d_M_condition_9 (by decide) ?_
    exact hret _ _ _ _ _ d_M_condition_10 rfl (⟨by unfold q_cond; rw [inB_neg c1]; rfl, by rw [inB_neg c1]; rfl⟩)
  · refine g_iload_n hJ d_M_condition_4 rfl ?_
    refine g_iconst hJ (v := nI 1) d_M_condition_5 (by decide) ?_
    refine g_icmp_le hJ (tgt := 11) d_M_condition_6 (by decide) (fun c2 => ?_) (fun c2 => ?_)
    · have hi := inB_le (m := 1) (by decide) c1 c2
      obtain ⟨k, hk, hk31, rfl⟩ := inB_of hi
      refine g_iload_n hJ d_M_condition_11 rfl ?_
      refine g_if_lt hJ (tgt := 30) d_M_condition_12 (by decide) (fun c3 => ?_) (fun c3 => ?_)
      · refine g_bipush hJ (v := -2) d_M_condition_30 (by decide) ?_
        exact hret _ _ _ _ _ d_M_condition_32 rfl (⟨by unfold q_cond ok_what; rw [hi, if_pos rfl, inB_neg c3]; rfl, by unfold ok_what; rw [inB_neg c3, Bool.false_and, Bool.and_false]; rfl⟩)
      · refine g_iload_n hJ d_M_condition_15 rfl ?_
        refine g_bipush hJ (v := nI 15) d_M_condition_16 (by decide) ?_
        refine g_icmp_gt hJ (tgt := 30) d_M_condition_18 (by decide) (fun c4 => ?_) (fun c4 => ?_)
        · refine g_bipush hJ (v := -2) d_M_condition_30 (by decide) ?_
          exact hret _ _ _ _ _ d_M_condition_32 rfl (⟨by unfold q_cond ok_what; rw [hi, if_pos rfl, inB_nle (m := 15) (by decide) (Int32.not_le.mpr c4)]; rfl, by unfold ok_what; rw [inB_nle (m := 15) (by decide) (Int32.not_le.mpr c4), Bool.false_and, Bool.and_false]; rfl⟩)
        · have hw := inB_le (m := 15) (by decide) c3 (Int32.not_lt.mp c4)
          obtain ⟨w, hw16, hw31, rfl⟩ := inB_of hw
          refine g_iload_n hJ d_M_condition_21 rfl ?_
          refine g_bipush hJ (v := nI 8) d_M_condition_22 (by decide) ?_
          refine g_iremn hJ d_M_condition_24 (by omega) (by decide) (by decide) ?_
          refine g_bipush hJ (v := nI 7) d_M_condition_25 (by decide) ?_
          refine g_n_ne hJ (tgt := 33) d_M_condition_27 (by decide) (by omega) (by decide) (fun c5 => ?_) (fun c5 => ?_)
          · refine g_ga hJ fl_M_3 (n := 28) rfl d_M_condition_33 d_M_condition_34 rfl ?_
            refine g_bipush hJ (v := nI 24) d_M_condition_37 (by decide) ?_
            refine g_iload_n hJ d_M_condition_39 rfl ?_
            refine g_iaddn hJ d_M_condition_40 ?_
            refine g_iload_n hJ d_M_condition_41 rfl ?_
            refine g_iast hJ (k := 3) (n := 28) rfl (by decide) (by omega) d_M_condition_42 ?_
            refine g_ga hJ fl_M_4 (n := 28) rfl d_M_condition_43 d_M_condition_44 rfl ?_
            refine g_bipush hJ (v := nI 24) d_M_condition_47 (by decide) ?_
            refine g_iload_n hJ d_M_condition_49 rfl ?_
            refine g_iaddn hJ d_M_condition_50 ?_
            refine g_iload_n hJ d_M_condition_51 rfl ?_
            refine g_iast hJ (k := 4) (n := 28) rfl (by decide) (by omega) d_M_condition_52 ?_
            refine g_ga hJ fl_M_5 (n := 28) rfl d_M_condition_53 d_M_condition_54 rfl ?_
            refine g_bipush hJ (v := nI 24) d_M_condition_57 (by decide) ?_
            refine g_iload_n hJ d_M_condition_59 rfl ?_
            refine g_iaddn hJ d_M_condition_60 ?_
            refine g_iload hJ d_M_condition_61 rfl ?_
            refine g_iast hJ (k := 5) (n := 28) rfl (by decide) (by omega) d_M_condition_63 ?_
            refine g_iconst hJ (v := nI 0) d_M_condition_64 (by decide) ?_
            exact hret _ _ _ _ _ d_M_condition_65 rfl (⟨by unfold q_cond ok_what; rw [hi, if_pos rfl, hw, ix_nI hw31, decide_eq_false c5]; rfl, by unfold ok_what; rw [hi, hw, ix_nI hw31, ix_nI hk31, decide_eq_false c5]; rfl⟩)
          · refine g_bipush hJ (v := -2) d_M_condition_30 (by decide) ?_
            exact hret _ _ _ _ _ d_M_condition_32 rfl (⟨by unfold q_cond ok_what; rw [hi, if_pos rfl, hw, ix_nI hw31, decide_eq_true c5]; rfl, by unfold ok_what; rw [hi, hw, ix_nI hw31, decide_eq_true c5]; rfl⟩)
    · refine g_iconst hJ (v := -1) d_M_condition_9 (by decide) ?_
      exact hret _ _ _ _ _ d_M_condition_10 rfl (⟨by unfold q_cond; rw [inB_nle (m := 1) (by decide) c2]; rfl, by rw [inB_nle (m := 1) (by decide) c2]; rfl⟩)
end
section
-- the class: its commands (by x1.py)
/-- the draft written to a rule -/
def dfG (iv : Nat → Int32) (a0 : Nat → Nat → Int32) (q : Nat) (a : Int32) : Nat → Nat → Int32 :=
  let a1 := up2 a0 0 q (iv 20)
  let a2 := up2 a1 1 q (iv 21)
  let a3 := up2 a2 5 q a
  let a4 := up2 a3 2 (2 * q) (a3 22 0)
  let a5 := up2 a4 3 (2 * q) (a4 23 0)
  let a6 := up2 a5 4 (2 * q) (a5 24 0)
  let a7 := up2 a6 2 (2 * q + 1) (a6 22 1)
  let a8 := up2 a7 3 (2 * q + 1) (a7 23 1)
  up2 a8 4 (2 * q + 1) (a8 24 1)
theorem inB2_no {x : Int32} (h0 : ¬ x = 0) (h1 : ¬ x = nI 1) : inB 2 x = false := by
  by_cases h : inB 2 x = true
  · obtain ⟨k, hk, -, rfl⟩ := inB_of h
    rcases (show k = 0 ∨ k = 1 by omega) with rfl | rfl
    · exact absurd rfl h0
    · exact absurd rfl h1
  · simpa using h
set_option maxHeartbeats 4000000 in
set_option maxRecDepth 100000 in
theorem c_X_isNumber (l : Launch) (x : Int32) : gMs l y_X_isNumber b_X_isNumber 1 (gRm 0 0) .boolean [.int x] (b2 (inB 32 x)) := by
  refine Met.ofW (cc := b_X_isNumber) (maxL := 1) (ret := some .boolean) (by decide) rfl ?_
  intro p e s m args below meth c s₁ B hml hv
  have hx := B.exec
  have hb := B.bytes
  have hr := B.returns
  have hlocks := B.notSynchronized
  subst hv
  have hl := lv_entry ([.int x]) (n := 1) (Nat.le_of_ble_eq_true rfl)
  rw [lg_entry_eq]
  generalize (lg_sl ([.int x]) ++ List.replicate (1 - (lg_sl ([.int x])).length) Slot.unset).toArray = ls at hl ⊢
  have hl : lv_has ls 1 [(0, .int x)] := hl
  refine lv_iload_n hx hb d_X_isNumber_0 rfl (lv_at hl 0 rfl) ?_
  refine lv_if_lt (tgt := 14) hx hb d_X_isNumber_1 (by decide) (fun c1 => ?_) (fun c1 => ?_)
  · refine lv_iconst (v := 0) hx hb d_X_isNumber_14 (by decide) ?_
    exact W.zret hx hb hr rfl (fun t ht hW => ⟨by rw [inB_neg c1]; rfl, ht⟩) t_nil d_X_isNumber_15
  · refine lv_iload_n hx hb d_X_isNumber_4 rfl (lv_at hl 0 rfl) ?_
    refine lv_bipush (v := nI 32) hx hb d_X_isNumber_5 (by decide) ?_
    refine lv_icmp_ge (tgt := 14) hx hb d_X_isNumber_7 (by decide) (fun c2 => ?_) (fun c2 => ?_)
    · refine lv_iconst (v := 0) hx hb d_X_isNumber_14 (by decide) ?_
      exact W.zret hx hb hr rfl (fun t ht hW => ⟨by rw [inB_ge (by decide) c2]; rfl, ht⟩) t_nil d_X_isNumber_15
    · refine lv_iconst (v := 1) hx hb d_X_isNumber_10 (by decide) ?_
      refine lv_goto (tgt := 15) hx hb d_X_isNumber_11 (by decide) ?_
      exact W.zret hx hb hr rfl (fun t ht hW => ⟨by rw [inB_nge (by decide) c1 c2]; rfl, ht⟩) t_nil d_X_isNumber_15
set_option maxHeartbeats 4000000 in
set_option maxRecDepth 100000 in
theorem c_X_isAction (l : Launch) (x : Int32) : gMs l y_X_isAction b_X_isAction 1 (gRm 0 0) .boolean [.int x] (b2 (inB 4 x)) := by
  refine Met.ofW (cc := b_X_isAction) (maxL := 1) (ret := some .boolean) (by decide) rfl ?_
  intro p e s m args below meth c s₁ B hml hv
  have hx := B.exec
  have hb := B.bytes
  have hr := B.returns
  have hlocks := B.notSynchronized
  subst hv
  have hl := lv_entry ([.int x]) (n := 1) (Nat.le_of_ble_eq_true rfl)
  rw [lg_entry_eq]
  generalize (lg_sl ([.int x]) ++ List.replicate (1 - (lg_sl ([.int x])).length) Slot.unset).toArray = ls at hl ⊢
  have hl : lv_has ls 1 [(0, .int x)] := hl
  refine lv_iload_n hx hb d_X_isAction_0 rfl (lv_at hl 0 rfl) ?_
  refine lv_if_lt (tgt := 13) hx hb d_X_isAction_1 (by decide) (fun c1 => ?_) (fun c1 => ?_)
  · refine lv_iconst (v := 0) hx hb d_X_isAction_13 (by decide) ?_
    exact W.zret hx hb hr rfl (fun t ht hW => ⟨by rw [inB_neg c1]; rfl, ht⟩) t_nil d_X_isAction_14
  · refine lv_iload_n hx hb d_X_isAction_4 rfl (lv_at hl 0 rfl) ?_
    refine lv_iconst (v := nI 3) hx hb d_X_isAction_5 (by decide) ?_
    refine lv_icmp_gt (tgt := 13) hx hb d_X_isAction_6 (by decide) (fun c2 => ?_) (fun c2 => ?_)
    · refine lv_iconst (v := 0) hx hb d_X_isAction_13 (by decide) ?_
      exact W.zret hx hb hr rfl (fun t ht hW => ⟨by rw [inB_nle (m := 3) (by decide) (Int32.not_le.mpr c2)]; rfl, ht⟩) t_nil d_X_isAction_14
    · refine lv_iconst (v := 1) hx hb d_X_isAction_9 (by decide) ?_
      refine lv_goto (tgt := 14) hx hb d_X_isAction_10 (by decide) ?_
      exact W.zret hx hb hr rfl (fun t ht hW => ⟨by rw [inB_le (m := 3) (by decide) c1 (Int32.not_lt.mp c2)]; rfl, ht⟩) t_nil d_X_isAction_14
set_option maxHeartbeats 4000000 in
set_option maxRecDepth 100000 in
theorem c_X_isRule (G : gG) (l : Launch) (iv : Nat → Int32) (av : Nat → Nat → Int32) (n : Nat) (hn : iv 25 = nI n) (hn12 : n ≤ 12) (x : Int32) : gM false G l y_X_isRule b_X_isRule 2 (gRm 0 0) .boolean [.int x] iv av (fun r u => r = b2 (inB n x) ∧ u = (iv, av)) := by
  refine g_met rfl (Nat.le_of_ble_eq_true rfl) (fun J hJ hret => ?_)
  refine g_lv (lv2 := [(0, .ref G.1), (1, .int x)]) rfl ?_
  refine g_iload_n hJ d_X_isRule_0 rfl ?_
  refine g_if_lt hJ (tgt := 16) d_X_isRule_1 (by decide) (fun c => ?_) (fun c => ?_)
  · refine g_iconst hJ (v := nI 0) d_X_isRule_16 (by decide) ?_
    exact hret _ _ _ _ _ d_X_isRule_17 rfl (⟨b2_nof (inB_neg c), rfl⟩)
  · refine g_iload_n hJ d_X_isRule_4 rfl ?_
    refine g_gi hJ fl_X_25 rfl d_X_isRule_5 d_X_isRule_6 rfl ?_
    refine g_top (hn) ?_
    refine g_icmp_ge hJ (tgt := 16) d_X_isRule_9 (by decide) (fun c2 => ?_) (fun c2 => ?_)
    · refine g_iconst hJ (v := nI 0) d_X_isRule_16 (by decide) ?_
      exact hret _ _ _ _ _ d_X_isRule_17 rfl (⟨b2_nof (inB_ge (by omega) c2), rfl⟩)
    · refine g_iconst hJ (v := nI 1) d_X_isRule_12 (by decide) ?_
      refine g_goto hJ (tgt := 17) d_X_isRule_13 (by decide) ?_
      exact hret _ _ _ _ _ d_X_isRule_17 rfl (⟨b2_of (inB_nge (by omega) c c2), rfl⟩)
set_option maxHeartbeats 4000000 in
set_option maxRecDepth 100000 in
theorem c_X_carry (G : gG) (l : Launch) (iv : Nat → Int32) (av : Nat → Nat → Int32) (i j : Nat) (hi : i < 13) (hj : j < 13) : gMv false G l y_X_carry b_X_carry 4 (gRm 0 0) [.int (nI i), .int (nI j)] iv av (fun u => u = (iv, cpG pX av i j)) := by
  refine g_metv rfl (Nat.le_of_ble_eq_true rfl) (fun J hJ hret => ?_)
  refine g_lv (lv2 := [(0, .ref G.1), (1, .int (nI i)), (2, .int (nI j))]) rfl ?_
  refine g_ga hJ fl_X_0 (n := 13) rfl d_X_carry_0 d_X_carry_1 rfl ?_
  refine g_iload_n hJ d_X_carry_4 rfl ?_
  refine g_ga hJ fl_X_0 (n := 13) rfl d_X_carry_5 d_X_carry_6 rfl ?_
  refine g_iload_n hJ d_X_carry_9 rfl ?_
  refine g_iald hJ (k := 0) (n := 13) rfl (by decide) (by omega) d_X_carry_10 ?_
  refine g_iast hJ (k := 0) (n := 13) rfl (by decide) (by omega) d_X_carry_11 ?_
  refine g_ga hJ fl_X_1 (n := 13) rfl d_X_carry_12 d_X_carry_13 rfl ?_
  refine g_iload_n hJ d_X_carry_16 rfl ?_
  refine g_ga hJ fl_X_1 (n := 13) rfl d_X_carry_17 d_X_carry_18 rfl ?_
  refine g_iload_n hJ d_X_carry_21 rfl ?_
  refine g_iald hJ (k := 1) (n := 13) rfl (by decide) (by omega) d_X_carry_22 ?_
  refine g_iast hJ (k := 1) (n := 13) rfl (by decide) (by omega) d_X_carry_23 ?_
  refine g_ga hJ fl_X_5 (n := 13) rfl d_X_carry_24 d_X_carry_25 rfl ?_
  refine g_iload_n hJ d_X_carry_28 rfl ?_
  refine g_ga hJ fl_X_5 (n := 13) rfl d_X_carry_29 d_X_carry_30 rfl ?_
  refine g_iload_n hJ d_X_carry_33 rfl ?_
  refine g_iald hJ (k := 5) (n := 13) rfl (by decide) (by omega) d_X_carry_34 ?_
  refine g_iast hJ (k := 5) (n := 13) rfl (by decide) (by omega) d_X_carry_35 ?_
  refine g_iconst hJ (v := nI 0) d_X_carry_36 (by decide) ?_
  refine g_istore_n hJ (lv2 := [(0, .ref G.1), (1, .int (nI i)), (2, .int (nI j)), (3, .int (nI 0))]) d_X_carry_37 (by decide) rfl rfl ?_
  refine g_iload_n hJ d_X_carry_38 rfl ?_
  refine g_iconst hJ (v := nI 2) d_X_carry_39 (by decide) ?_
  refine g_n_ge hJ (tgt := 109) d_X_carry_40 (by decide) (by decide) (by decide) (fun q => absurd q (by decide)) (fun _ => ?_)
  refine g_ga hJ fl_X_2 (n := 26) rfl d_X_carry_43 d_X_carry_44 rfl ?_
  refine g_iconst hJ (v := nI 2) d_X_carry_47 (by decide) ?_
  refine g_iload_n hJ d_X_carry_48 rfl ?_
  refine g_imuln hJ d_X_carry_49 ?_
  refine g_iload_n hJ d_X_carry_50 rfl ?_
  refine g_iaddn hJ d_X_carry_51 ?_
  refine g_ga hJ fl_X_2 (n := 26) rfl d_X_carry_52 d_X_carry_53 rfl ?_
  refine g_iconst hJ (v := nI 2) d_X_carry_56 (by decide) ?_
  refine g_iload_n hJ d_X_carry_57 rfl ?_
  refine g_imuln hJ d_X_carry_58 ?_
  refine g_iload_n hJ d_X_carry_59 rfl ?_
  refine g_iaddn hJ d_X_carry_60 ?_
  refine g_iald hJ (k := 2) (n := 26) rfl (by decide) (by omega) d_X_carry_61 ?_
  refine g_iast hJ (k := 2) (n := 26) rfl (by decide) (by omega) d_X_carry_62 ?_
  refine g_ga hJ fl_X_3 (n := 26) rfl d_X_carry_63 d_X_carry_64 rfl ?_
  refine g_iconst hJ (v := nI 2) d_X_carry_67 (by decide) ?_
  refine g_iload_n hJ d_X_carry_68 rfl ?_
  refine g_imuln hJ d_X_carry_69 ?_
  refine g_iload_n hJ d_X_carry_70 rfl ?_
  refine g_iaddn hJ d_X_carry_71 ?_
  refine g_ga hJ fl_X_3 (n := 26) rfl d_X_carry_72 d_X_carry_73 rfl ?_
  refine g_iconst hJ (v := nI 2) d_X_carry_76 (by decide) ?_
  refine g_iload_n hJ d_X_carry_77 rfl ?_
  refine g_imuln hJ d_X_carry_78 ?_
  refine g_iload_n hJ d_X_carry_79 rfl ?_
  refine g_iaddn hJ d_X_carry_80 ?_
  refine g_iald hJ (k := 3) (n := 26) rfl (by decide) (by omega) d_X_carry_81 ?_
  refine g_iast hJ (k := 3) (n := 26) rfl (by decide) (by omega) d_X_carry_82 ?_
  refine g_ga hJ fl_X_4 (n := 26) rfl d_X_carry_83 d_X_carry_84 rfl ?_
  refine g_iconst hJ (v := nI 2) d_X_carry_87 (by decide) ?_
  refine g_iload_n hJ d_X_carry_88 rfl ?_
  refine g_imuln hJ d_X_carry_89 ?_
  refine g_iload_n hJ d_X_carry_90 rfl ?_
  refine g_iaddn hJ d_X_carry_91 ?_
  refine g_ga hJ fl_X_4 (n := 26) rfl d_X_carry_92 d_X_carry_93 rfl ?_
  refine g_iconst hJ (v := nI 2) d_X_carry_96 (by decide) ?_
  refine g_iload_n hJ d_X_carry_97 rfl ?_
  refine g_imuln hJ d_X_carry_98 ?_
  refine g_iload_n hJ d_X_carry_99 rfl ?_
  refine g_iaddn hJ d_X_carry_100 ?_
  refine g_iald hJ (k := 4) (n := 26) rfl (by decide) (by omega) d_X_carry_101 ?_
  refine g_iast hJ (k := 4) (n := 26) rfl (by decide) (by omega) d_X_carry_102 ?_
  refine g_inc hJ (lv2 := [(0, .ref G.1), (1, .int (nI i)), (2, .int (nI j)), (3, .int (nI 1))]) d_X_carry_103 rfl (by decide) rfl rfl ?_
  refine g_goto hJ (tgt := 38) d_X_carry_106 (by decide) ?_
  refine g_iload_n hJ d_X_carry_38 rfl ?_
  refine g_iconst hJ (v := nI 2) d_X_carry_39 (by decide) ?_
  refine g_n_ge hJ (tgt := 109) d_X_carry_40 (by decide) (by decide) (by decide) (fun q => absurd q (by decide)) (fun _ => ?_)
  refine g_ga hJ fl_X_2 (n := 26) rfl d_X_carry_43 d_X_carry_44 rfl ?_
  refine g_iconst hJ (v := nI 2) d_X_carry_47 (by decide) ?_
  refine g_iload_n hJ d_X_carry_48 rfl ?_
  refine g_imuln hJ d_X_carry_49 ?_
  refine g_iload_n hJ d_X_carry_50 rfl ?_
  refine g_iaddn hJ d_X_carry_51 ?_
  refine g_ga hJ fl_X_2 (n := 26) rfl d_X_carry_52 d_X_carry_53 rfl ?_
  refine g_iconst hJ (v := nI 2) d_X_carry_56 (by decide) ?_
  refine g_iload_n hJ d_X_carry_57 rfl ?_
  refine g_imuln hJ d_X_carry_58 ?_
  refine g_iload_n hJ d_X_carry_59 rfl ?_
  refine g_iaddn hJ d_X_carry_60 ?_
  refine g_iald hJ (k := 2) (n := 26) rfl (by decide) (by omega) d_X_carry_61 ?_
  refine g_iast hJ (k := 2) (n := 26) rfl (by decide) (by omega) d_X_carry_62 ?_
  refine g_ga hJ fl_X_3 (n := 26) rfl d_X_carry_63 d_X_carry_64 rfl ?_
  refine g_iconst hJ (v := nI 2) d_X_carry_67 (by decide) ?_
  refine g_iload_n hJ d_X_carry_68 rfl ?_
  refine g_imuln hJ d_X_carry_69 ?_
  refine g_iload_n hJ d_X_carry_70 rfl ?_
  refine g_iaddn hJ d_X_carry_71 ?_
  refine g_ga hJ fl_X_3 (n := 26) rfl d_X_carry_72 d_X_carry_73 rfl ?_
  refine g_iconst hJ (v := nI 2) d_X_carry_76 (by decide) ?_
  refine g_iload_n hJ d_X_carry_77 rfl ?_
  refine g_imuln hJ d_X_carry_78 ?_
  refine g_iload_n hJ d_X_carry_79 rfl ?_
  refine g_iaddn hJ d_X_carry_80 ?_
  refine g_iald hJ (k := 3) (n := 26) rfl (by decide) (by omega) d_X_carry_81 ?_
  refine g_iast hJ (k := 3) (n := 26) rfl (by decide) (by omega) d_X_carry_82 ?_
  refine g_ga hJ fl_X_4 (n := 26) rfl d_X_carry_83 d_X_carry_84 rfl ?_
  refine g_iconst hJ (v := nI 2) d_X_carry_87 (by decide) ?_
  refine g_iload_n hJ d_X_carry_88 rfl ?_
  refine g_imuln hJ d_X_carry_89 ?_
  refine g_iload_n hJ d_X_carry_90 rfl ?_
  refine g_iaddn hJ d_X_carry_91 ?_
  refine g_ga hJ fl_X_4 (n := 26) rfl d_X_carry_92 d_X_carry_93 rfl ?_
  refine g_iconst hJ (v := nI 2) d_X_carry_96 (by decide) ?_
  refine g_iload_n hJ d_X_carry_97 rfl ?_
  refine g_imuln hJ d_X_carry_98 ?_
  refine g_iload_n hJ d_X_carry_99 rfl ?_
  refine g_iaddn hJ d_X_carry_100 ?_
  refine g_iald hJ (k := 4) (n := 26) rfl (by decide) (by omega) d_X_carry_101 ?_
  refine g_iast hJ (k := 4) (n := 26) rfl (by decide) (by omega) d_X_carry_102 ?_
  refine g_inc hJ (lv2 := [(0, .ref G.1), (1, .int (nI i)), (2, .int (nI j)), (3, .int (nI 2))]) d_X_carry_103 rfl (by decide) rfl rfl ?_
  refine g_goto hJ (tgt := 38) d_X_carry_106 (by decide) ?_
  refine g_iload_n hJ d_X_carry_38 rfl ?_
  refine g_iconst hJ (v := nI 2) d_X_carry_39 (by decide) ?_
  refine g_n_ge hJ (tgt := 109) d_X_carry_40 (by decide) (by decide) (by decide) (fun _ => ?_) (fun q => absurd q (by decide))
  exact hret _ _ _ _ d_X_carry_109 (rfl)
set_option maxHeartbeats 4000000 in
set_option maxRecDepth 100000 in
theorem c_X_range (G : gG) (l : Launch) (iv : Nat → Int32) (av : Nat → Nat → Int32) (x y : Int32) : gM false G l y_X_range b_X_range 3 (gRm 1 20) .int [.int x, .int y] iv av (fun r u => r = q_range x y ∧ u = if ok_range x y = true then (upd (upd iv 20 x) 21 y, av) else (iv, av)) := by
  refine g_met rfl (Nat.le_of_ble_eq_true rfl) (fun J hJ hret => ?_)
  refine g_lv (lv2 := [(0, .ref G.1), (1, .int x), (2, .int y)]) rfl ?_
  refine g_iload_n hJ d_X_range_0 rfl ?_
  refine g_calls hJ k_X_X_isNumber (c_X_isNumber l x) (by decide) (by decide) rfl rfl (Nat.le_of_ble_eq_true rfl) d_X_range_1 ?_
  refine g_beq hJ (tgt := 14) d_X_range_4 (by decide) (fun c1 => ?_) (fun c1 => ?_)
  · refine g_iconst hJ (v := -1) d_X_range_14 (by decide) ?_
    exact hret _ _ _ _ _ d_X_range_15 rfl (⟨by unfold q_range; rw [c1]; rfl, by unfold ok_range; rw [c1]; rfl⟩)
  · refine g_iload_n hJ d_X_range_7 rfl ?_
    refine g_calls hJ k_X_X_isNumber (c_X_isNumber l y) (by decide) (by decide) rfl rfl (Nat.le_of_ble_eq_true rfl) d_X_range_8 ?_
    refine g_bne hJ (tgt := 16) d_X_range_11 (by decide) (fun c2 => ?_) (fun c2 => ?_)
    · refine g_iload_n hJ d_X_range_16 rfl ?_
      refine g_iload_n hJ d_X_range_17 rfl ?_
      refine g_icmp_le hJ (tgt := 24) d_X_range_18 (by decide) (fun c3 => ?_) (fun c3 => ?_)
      · refine g_aload_n hJ d_X_range_24 rfl ?_
        refine g_iload_n hJ d_X_range_25 rfl ?_
        refine g_put hJ fl_X_20 rfl (pt_X_20 _) d_X_range_26 ?_
        refine g_aload_n hJ d_X_range_29 rfl ?_
        refine g_iload_n hJ d_X_range_30 rfl ?_
        refine g_put hJ fl_X_21 rfl (pt_X_21 _) d_X_range_31 ?_
        refine g_iconst hJ (v := nI 0) d_X_range_34 (by decide) ?_
        exact hret _ _ _ _ _ d_X_range_35 rfl (⟨by unfold q_range; rw [c1, c2, Bool.and_self, if_pos rfl, if_neg (Int32.not_lt.mpr c3)], by unfold ok_range; rw [c1, c2, decide_eq_false (Int32.not_lt.mpr c3)]; rfl⟩)
      · refine g_bipush hJ (v := -2) d_X_range_21 (by decide) ?_
        exact hret _ _ _ _ _ d_X_range_23 rfl (⟨by unfold q_range; rw [c1, c2, Bool.and_self, if_pos rfl, if_pos (Int32.not_le.mp c3)], by unfold ok_range; rw [decide_eq_true (Int32.not_le.mp c3), Bool.not_true, Bool.and_false]; rfl⟩)
    · refine g_iconst hJ (v := -1) d_X_range_14 (by decide) ?_
      exact hret _ _ _ _ _ d_X_range_15 rfl (⟨by unfold q_range; rw [c2, Bool.and_false]; rfl, by unfold ok_range; rw [c2, Bool.and_false]; rfl⟩)
set_option maxHeartbeats 4000000 in
set_option maxRecDepth 100000 in
theorem c_X_condition (G : gG) (l : Launch) (iv : Nat → Int32) (av : Nat → Nat → Int32) (s q m v : Int32) : gM false G l y_X_condition b_X_condition 5 (gRm 0 0) .int [.int s, .int q, .int m, .int v] iv av (fun r u => r = q_cond s q ∧ u = if (inB 2 s && ok_what q) = true then (iv, up2 (up2 (up2 av 22 (ix s) q) 23 (ix s) m) 24 (ix s) v) else (iv, av)) := by
  refine g_met rfl (Nat.le_of_ble_eq_true rfl) (fun J hJ hret => ?_)
  refine g_lv (lv2 := [(0, .ref G.1), (1, .int s), (2, .int q), (3, .int m), (4, .int v)]) rfl ?_
  refine g_iload_n hJ d_X_condition_0 rfl ?_
  refine g_if_eq hJ (tgt := 11) d_X_condition_1 (by decide) (fun c1 => ?_) (fun c1 => ?_)
  · have e1 : s = nI 0 := c1
    subst e1
    have hi : inB 2 (nI 0) = true := by decide +kernel
    have hk31 : (0 : Nat) < 2 ^ 31 := by decide
    refine g_iload_n hJ d_X_condition_11 rfl ?_
    refine g_if_lt hJ (tgt := 30) d_X_condition_12 (by decide) (fun c3 => ?_) (fun c3 => ?_)
    · refine g_bipush hJ (v := -2) d_X_condition_30 (by decide) ?_
      exact hret _ _ _ _ _ d_X_condition_32 rfl (⟨by unfold q_cond ok_what; rw [hi, if_pos rfl, inB_neg c3]; rfl, by unfold ok_what; rw [inB_neg c3, Bool.false_and, Bool.and_false]; rfl⟩)
    · refine g_iload_n hJ d_X_condition_15 rfl ?_
      refine g_bipush hJ (v := nI 15) d_X_condition_16 (by decide) ?_
      refine g_icmp_gt hJ (tgt := 30) d_X_condition_18 (by decide) (fun c4 => ?_) (fun c4 => ?_)
      · refine g_bipush hJ (v := -2) d_X_condition_30 (by decide) ?_
        exact hret _ _ _ _ _ d_X_condition_32 rfl (⟨by unfold q_cond ok_what; rw [hi, if_pos rfl, inB_nle (m := 15) (by decide) (Int32.not_le.mpr c4)]; rfl, by unfold ok_what; rw [inB_nle (m := 15) (by decide) (Int32.not_le.mpr c4), Bool.false_and, Bool.and_false]; rfl⟩)
      · have hw := inB_le (m := 15) (by decide) c3 (Int32.not_lt.mp c4)
        obtain ⟨w, hw16, hw31, rfl⟩ := inB_of hw
        refine g_iload_n hJ d_X_condition_21 rfl ?_
        refine g_bipush hJ (v := nI 7) d_X_condition_22 (by decide) ?_
        refine g_iand hJ d_X_condition_24 ?_
        refine g_top (nI_and7 hw31) ?_
        refine g_bipush hJ (v := nI 7) d_X_condition_25 (by decide) ?_
        refine g_n_ne hJ (tgt := 33) d_X_condition_27 (by decide) (by omega) (by decide) (fun c5 => ?_) (fun c5 => ?_)
        · refine g_ga hJ fl_X_22 (n := 2) rfl d_X_condition_33 d_X_condition_34 rfl ?_
          refine g_iload_n hJ d_X_condition_37 rfl ?_
          refine g_iload_n hJ d_X_condition_38 rfl ?_
          refine g_iast hJ (k := 22) (n := 2) rfl (by decide) (by omega) d_X_condition_39 ?_
          refine g_ga hJ fl_X_23 (n := 2) rfl d_X_condition_40 d_X_condition_41 rfl ?_
          refine g_iload_n hJ d_X_condition_44 rfl ?_
          refine g_iload_n hJ d_X_condition_45 rfl ?_
          refine g_iast hJ (k := 23) (n := 2) rfl (by decide) (by omega) d_X_condition_46 ?_
          refine g_ga hJ fl_X_24 (n := 2) rfl d_X_condition_47 d_X_condition_48 rfl ?_
          refine g_iload_n hJ d_X_condition_51 rfl ?_
          refine g_iload hJ d_X_condition_52 rfl ?_
          refine g_iast hJ (k := 24) (n := 2) rfl (by decide) (by omega) d_X_condition_54 ?_
          refine g_iconst hJ (v := nI 0) d_X_condition_55 (by decide) ?_
          exact hret _ _ _ _ _ d_X_condition_56 rfl (⟨by unfold q_cond ok_what; rw [hi, if_pos rfl, hw, ix_nI hw31, decide_eq_false c5]; rfl, by unfold ok_what; rw [hi, hw, ix_nI hw31, ix_nI hk31, decide_eq_false c5]; rfl⟩)
        · refine g_bipush hJ (v := -2) d_X_condition_30 (by decide) ?_
          exact hret _ _ _ _ _ d_X_condition_32 rfl (⟨by unfold q_cond ok_what; rw [hi, if_pos rfl, hw, ix_nI hw31, decide_eq_true c5]; rfl, by unfold ok_what; rw [hi, hw, ix_nI hw31, decide_eq_true c5]; rfl⟩)
  · refine g_iload_n hJ d_X_condition_4 rfl ?_
    refine g_iconst hJ (v := nI 1) d_X_condition_5 (by decide) ?_
    refine g_icmp_eq hJ (tgt := 11) d_X_condition_6 (by decide) (fun c2 => ?_) (fun c2 => ?_)
    · subst c2
      have hi : inB 2 (nI 1) = true := by decide +kernel
      have hk31 : (1 : Nat) < 2 ^ 31 := by decide
      refine g_iload_n hJ d_X_condition_11 rfl ?_
      refine g_if_lt hJ (tgt := 30) d_X_condition_12 (by decide) (fun c3 => ?_) (fun c3 => ?_)
      · refine g_bipush hJ (v := -2) d_X_condition_30 (by decide) ?_
        exact hret _ _ _ _ _ d_X_condition_32 rfl (⟨by unfold q_cond ok_what; rw [hi, if_pos rfl, inB_neg c3]; rfl, by unfold ok_what; rw [inB_neg c3, Bool.false_and, Bool.and_false]; rfl⟩)
      · refine g_iload_n hJ d_X_condition_15 rfl ?_
        refine g_bipush hJ (v := nI 15) d_X_condition_16 (by decide) ?_
        refine g_icmp_gt hJ (tgt := 30) d_X_condition_18 (by decide) (fun c4 => ?_) (fun c4 => ?_)
        · refine g_bipush hJ (v := -2) d_X_condition_30 (by decide) ?_
          exact hret _ _ _ _ _ d_X_condition_32 rfl (⟨by unfold q_cond ok_what; rw [hi, if_pos rfl, inB_nle (m := 15) (by decide) (Int32.not_le.mpr c4)]; rfl, by unfold ok_what; rw [inB_nle (m := 15) (by decide) (Int32.not_le.mpr c4), Bool.false_and, Bool.and_false]; rfl⟩)
        · have hw := inB_le (m := 15) (by decide) c3 (Int32.not_lt.mp c4)
          obtain ⟨w, hw16, hw31, rfl⟩ := inB_of hw
          refine g_iload_n hJ d_X_condition_21 rfl ?_
          refine g_bipush hJ (v := nI 7) d_X_condition_22 (by decide) ?_
          refine g_iand hJ d_X_condition_24 ?_
          refine g_top (nI_and7 hw31) ?_
          refine g_bipush hJ (v := nI 7) d_X_condition_25 (by decide) ?_
          refine g_n_ne hJ (tgt := 33) d_X_condition_27 (by decide) (by omega) (by decide) (fun c5 => ?_) (fun c5 => ?_)
          · refine g_ga hJ fl_X_22 (n := 2) rfl d_X_condition_33 d_X_condition_34 rfl ?_
            refine g_iload_n hJ d_X_condition_37 rfl ?_
            refine g_iload_n hJ d_X_condition_38 rfl ?_
            refine g_iast hJ (k := 22) (n := 2) rfl (by decide) (by omega) d_X_condition_39 ?_
            refine g_ga hJ fl_X_23 (n := 2) rfl d_X_condition_40 d_X_condition_41 rfl ?_
            refine g_iload_n hJ d_X_condition_44 rfl ?_
            refine g_iload_n hJ d_X_condition_45 rfl ?_
            refine g_iast hJ (k := 23) (n := 2) rfl (by decide) (by omega) d_X_condition_46 ?_
            refine g_ga hJ fl_X_24 (n := 2) rfl d_X_condition_47 d_X_condition_48 rfl ?_
            refine g_iload_n hJ d_X_condition_51 rfl ?_
            refine g_iload hJ d_X_condition_52 rfl ?_
            refine g_iast hJ (k := 24) (n := 2) rfl (by decide) (by omega) d_X_condition_54 ?_
            refine g_iconst hJ (v := nI 0) d_X_condition_55 (by decide) ?_
            exact hret _ _ _ _ _ d_X_condition_56 rfl (⟨by unfold q_cond ok_what; rw [hi, if_pos rfl, hw, ix_nI hw31, decide_eq_false c5]; rfl, by unfold ok_what; rw [hi, hw, ix_nI hw31, ix_nI hk31, decide_eq_false c5]; rfl⟩)
          · refine g_bipush hJ (v := -2) d_X_condition_30 (by decide) ?_
            exact hret _ _ _ _ _ d_X_condition_32 rfl (⟨by unfold q_cond ok_what; rw [hi, if_pos rfl, hw, ix_nI hw31, decide_eq_true c5]; rfl, by unfold ok_what; rw [hi, hw, ix_nI hw31, decide_eq_true c5]; rfl⟩)
    · have hb := inB2_no c1 c2
      refine g_iconst hJ (v := -1) d_X_condition_9 (by decide) ?_
      exact hret _ _ _ _ _ d_X_condition_10 rfl (⟨by unfold q_cond; rw [hb]; rfl, by rw [hb]; rfl⟩)
set_option maxHeartbeats 4000000 in
set_option maxRecDepth 100000 in
theorem c_X_argument (G : gG) (l : Launch) (iv : Nat → Int32) (av : Nat → Nat → Int32) (x v : Int32) : gM false G l y_X_argument b_X_argument 3 (gRm 0 0) .int [.int x, .int v] iv av (fun r u => r = q_arg x ∧ u = if inB 2 x = true then (iv, up2 av 19 (ix x) v) else (iv, av)) := by
  refine g_met rfl (Nat.le_of_ble_eq_true rfl) (fun J hJ hret => ?_)
  refine g_lv (lv2 := [(0, .ref G.1), (1, .int x), (2, .int v)]) rfl ?_
  refine g_iload_n hJ d_X_argument_0 rfl ?_
  refine g_if_eq hJ (tgt := 11) d_X_argument_1 (by decide) (fun c1 => ?_) (fun c1 => ?_)
  · have e1 : x = nI 0 := c1
    subst e1
    have hi : inB 2 (nI 0) = true := by decide +kernel
    refine g_ga hJ fl_X_19 (n := 2) rfl d_X_argument_11 d_X_argument_12 rfl ?_
    refine g_iload_n hJ d_X_argument_15 rfl ?_
    refine g_iload_n hJ d_X_argument_16 rfl ?_
    refine g_iast hJ (k := 19) (n := 2) rfl (by decide) (by omega) d_X_argument_17 ?_
    refine g_iconst hJ (v := nI 0) d_X_argument_18 (by decide) ?_
    exact hret _ _ _ _ _ d_X_argument_19 rfl (⟨by unfold q_arg; rw [if_pos hi], by rw [if_pos hi, ix_nI (by decide)]⟩)
  · refine g_iload_n hJ d_X_argument_4 rfl ?_
    refine g_iconst hJ (v := nI 1) d_X_argument_5 (by decide) ?_
    refine g_icmp_eq hJ (tgt := 11) d_X_argument_6 (by decide) (fun c2 => ?_) (fun c2 => ?_)
    · subst c2
      have hi : inB 2 (nI 1) = true := by decide +kernel
      refine g_ga hJ fl_X_19 (n := 2) rfl d_X_argument_11 d_X_argument_12 rfl ?_
      refine g_iload_n hJ d_X_argument_15 rfl ?_
      refine g_iload_n hJ d_X_argument_16 rfl ?_
      refine g_iast hJ (k := 19) (n := 2) rfl (by decide) (by omega) d_X_argument_17 ?_
      refine g_iconst hJ (v := nI 0) d_X_argument_18 (by decide) ?_
      exact hret _ _ _ _ _ d_X_argument_19 rfl (⟨by unfold q_arg; rw [if_pos hi], by rw [if_pos hi, ix_nI (by decide)]⟩)
    · have hb := inB2_no c1 c2
      refine g_iconst hJ (v := -1) d_X_argument_9 (by decide) ?_
      exact hret _ _ _ _ _ d_X_argument_10 rfl (⟨by unfold q_arg; rw [hb]; rfl, by rw [hb]; rfl⟩)
set_option maxHeartbeats 4000000 in
set_option maxRecDepth 100000 in
theorem l_X_put {G : gG} {l : Launch} {J : gJT} {post : Int32 → gS → Prop} {iv : Nat → Int32} {q : Nat} {a : Int32} (hJ : gR false G l (gRm 1 23) b_X_put 4 J)   :
    ∀ (d : Nat) (av : Nat → Nat → Int32), q + d ≤ 12 → J 60 [(0, .ref G.1), (1, .int (nI q)), (2, .int a), (3, .int (nI q))] [] iv (shG pX av q d) → J 41 [(0, .ref G.1), (1, .int (nI q)), (2, .int a), (3, .int (nI (q + d)))] [] iv av := by
  intro d
  induction d with
  | zero =>
    intro av hd nx
    refine g_iload_n hJ d_X_put_41 rfl ?_
    refine g_iload_n hJ d_X_put_42 rfl ?_
    refine g_n_le hJ (tgt := 60) d_X_put_43 (by decide) (by omega) (by omega) (fun _ => ?_) (fun q => absurd q (by omega))
    exact nx
  | succ d ih =>
    intro av hd nx
    refine g_lv (lv2 := [(0, .ref G.1), (1, .int (nI q)), (2, .int a), (3, .int (nI (q + d + 1)))]) rfl ?_
    refine g_iload_n hJ d_X_put_41 rfl ?_
    refine g_iload_n hJ d_X_put_42 rfl ?_
    refine g_n_le hJ (tgt := 60) d_X_put_43 (by decide) (by omega) (by omega) (fun q => absurd q (by omega)) (fun _ => ?_)
    refine g_aload_n hJ d_X_put_46 rfl ?_
    refine g_iload_n hJ d_X_put_47 rfl ?_
    refine g_iconst hJ (v := nI 1) d_X_put_48 (by decide) ?_
    refine g_isubn hJ d_X_put_49 (by omega) ?_
    refine g_top (show nI (q + d + 1 - 1) = nI (q + d) from rfl) ?_
    refine g_iload_n hJ d_X_put_50 rfl ?_
    refine g_callv hJ k_X_X_carry (c_X_carry G l iv av (q + d) (q + d + 1) (by omega) (by omega)) (by decide) (by decide) rfl (rest := []) rfl (Nat.le_of_ble_eq_true rfl) d_X_put_51 (fun u hu => ?_)
    subst hu
    dsimp only
    refine g_dec hJ (lv2 := [(0, .ref G.1), (1, .int (nI q)), (2, .int a), (3, .int (nI (q + d)))]) d_X_put_54 rfl (by decide) rfl rfl ?_
    refine g_goto hJ (tgt := 41) d_X_put_57 (by decide) ?_
    exact ih _ (by omega) nx
set_option maxHeartbeats 4000000 in
set_option maxRecDepth 100000 in
theorem c_X_put (G : gG) (l : Launch) (iv : Nat → Int32) (av : Nat → Nat → Int32) (n : Nat) (hn : iv 25 = nI n) (hn12 : n ≤ 12) (x a : Int32) : gM false G l y_X_put b_X_put 4 (gRm 1 23) .int [.int x, .int a] iv av (fun r u => r = q_put n x a ∧ u = if ok_put n x a = true then (upd (upd iv 25 (nI (n + 1))) 30 (nI 0), dfG iv (shG pX av (ix x) (n - ix x)) (ix x) a) else (iv, av)) := by
  refine g_met rfl (Nat.le_of_ble_eq_true rfl) (fun J hJ hret => ?_)
  refine g_lv (lv2 := [(0, .ref G.1), (1, .int x), (2, .int a)]) rfl ?_
  refine g_iload_n hJ d_X_put_0 rfl ?_
  refine g_if_lt hJ (tgt := 12) d_X_put_1 (by decide) (fun c1 => ?_) (fun c1 => ?_)
  · refine g_iconst hJ (v := -1) d_X_put_12 (by decide) ?_
    exact hret _ _ _ _ _ d_X_put_13 rfl (⟨by unfold q_put; rw [inB_neg c1]; rfl, by unfold ok_put; rw [inB_neg c1]; rfl⟩)
  · refine g_iload_n hJ d_X_put_4 rfl ?_
    refine g_gi hJ fl_X_25 rfl d_X_put_5 d_X_put_6 rfl ?_
    refine g_top (hn) ?_
    refine g_icmp_le hJ (tgt := 14) d_X_put_9 (by decide) (fun c2 => ?_) (fun c2 => ?_)
    · have hi := inB_le (m := n) (by omega) c1 c2
      obtain ⟨k, hk, hk31, rfl⟩ := inB_of hi
      refine g_iload_n hJ d_X_put_14 rfl ?_
      refine g_calls hJ k_X_X_isAction (c_X_isAction l a) (by decide) (by decide) rfl rfl (Nat.le_of_ble_eq_true rfl) d_X_put_15 ?_
      refine g_bne hJ (tgt := 24) d_X_put_18 (by decide) (fun c3 => ?_) (fun c3 => ?_)
      · refine g_gi hJ fl_X_25 rfl d_X_put_24 d_X_put_25 rfl ?_
        refine g_top (hn) ?_
        refine g_bipush hJ (v := nI 12) d_X_put_28 (by decide) ?_
        refine g_n_ne hJ (tgt := 36) d_X_put_30 (by decide) (by omega) (by omega) (fun c4 => ?_) (fun c4 => ?_)
        · have e : k + (n - k) = n := by omega
          refine g_gi hJ fl_X_25 rfl d_X_put_36 d_X_put_37 rfl ?_
          refine g_top (hn) ?_
          refine g_istore_n hJ (lv2 := [(0, .ref G.1), (1, .int (nI k)), (2, .int a), (3, .int (nI n))]) d_X_put_40 (by decide) rfl rfl ?_
          have K := l_X_put (post := fun _ _ => True) (q := k) (a := a) (iv := iv) hJ (n - k) av (by omega)
          rw [e] at K
          refine K ?_
          generalize hav : shG pX av k (n - k) = av1
          refine g_ga hJ fl_X_0 (n := 13) rfl d_X_put_60 d_X_put_61 rfl ?_
          refine g_iload_n hJ d_X_put_64 rfl ?_
          refine g_gi hJ fl_X_20 rfl d_X_put_65 d_X_put_66 rfl ?_
          refine g_iast hJ (k := 0) (n := 13) rfl (by decide) (by omega) d_X_put_69 ?_
          refine g_ga hJ fl_X_1 (n := 13) rfl d_X_put_70 d_X_put_71 rfl ?_
          refine g_iload_n hJ d_X_put_74 rfl ?_
          refine g_gi hJ fl_X_21 rfl d_X_put_75 d_X_put_76 rfl ?_
          refine g_iast hJ (k := 1) (n := 13) rfl (by decide) (by omega) d_X_put_79 ?_
          refine g_ga hJ fl_X_5 (n := 13) rfl d_X_put_80 d_X_put_81 rfl ?_
          refine g_iload_n hJ d_X_put_84 rfl ?_
          refine g_iload_n hJ d_X_put_85 rfl ?_
          refine g_iast hJ (k := 5) (n := 13) rfl (by decide) (by omega) d_X_put_86 ?_
          refine g_iconst hJ (v := nI 0) d_X_put_87 (by decide) ?_
          refine g_istore_n hJ (lv2 := [(0, .ref G.1), (1, .int (nI k)), (2, .int a), (3, .int (nI 0))]) d_X_put_88 (by decide) rfl rfl ?_
          refine g_iload_n hJ d_X_put_89 rfl ?_
          refine g_iconst hJ (v := nI 2) d_X_put_90 (by decide) ?_
          refine g_n_ge hJ (tgt := 148) d_X_put_91 (by decide) (by decide) (by decide) (fun q => absurd q (by decide)) (fun _ => ?_)
          refine g_ga hJ fl_X_2 (n := 26) rfl d_X_put_94 d_X_put_95 rfl ?_
          refine g_iconst hJ (v := nI 2) d_X_put_98 (by decide) ?_
          refine g_iload_n hJ d_X_put_99 rfl ?_
          refine g_imuln hJ d_X_put_100 ?_
          refine g_iload_n hJ d_X_put_101 rfl ?_
          refine g_iaddn hJ d_X_put_102 ?_
          refine g_ga hJ fl_X_22 (n := 2) rfl d_X_put_103 d_X_put_104 rfl ?_
          refine g_iload_n hJ d_X_put_107 rfl ?_
          refine g_iald hJ (k := 22) (n := 2) rfl (by decide) (by omega) d_X_put_108 ?_
          refine g_iast hJ (k := 2) (n := 26) rfl (by decide) (by omega) d_X_put_109 ?_
          refine g_ga hJ fl_X_3 (n := 26) rfl d_X_put_110 d_X_put_111 rfl ?_
          refine g_iconst hJ (v := nI 2) d_X_put_114 (by decide) ?_
          refine g_iload_n hJ d_X_put_115 rfl ?_
          refine g_imuln hJ d_X_put_116 ?_
          refine g_iload_n hJ d_X_put_117 rfl ?_
          refine g_iaddn hJ d_X_put_118 ?_
          refine g_ga hJ fl_X_23 (n := 2) rfl d_X_put_119 d_X_put_120 rfl ?_
          refine g_iload_n hJ d_X_put_123 rfl ?_
          refine g_iald hJ (k := 23) (n := 2) rfl (by decide) (by omega) d_X_put_124 ?_
          refine g_iast hJ (k := 3) (n := 26) rfl (by decide) (by omega) d_X_put_125 ?_
          refine g_ga hJ fl_X_4 (n := 26) rfl d_X_put_126 d_X_put_127 rfl ?_
          refine g_iconst hJ (v := nI 2) d_X_put_130 (by decide) ?_
          refine g_iload_n hJ d_X_put_131 rfl ?_
          refine g_imuln hJ d_X_put_132 ?_
          refine g_iload_n hJ d_X_put_133 rfl ?_
          refine g_iaddn hJ d_X_put_134 ?_
          refine g_ga hJ fl_X_24 (n := 2) rfl d_X_put_135 d_X_put_136 rfl ?_
          refine g_iload_n hJ d_X_put_139 rfl ?_
          refine g_iald hJ (k := 24) (n := 2) rfl (by decide) (by omega) d_X_put_140 ?_
          refine g_iast hJ (k := 4) (n := 26) rfl (by decide) (by omega) d_X_put_141 ?_
          refine g_inc hJ (lv2 := [(0, .ref G.1), (1, .int (nI k)), (2, .int a), (3, .int (nI 1))]) d_X_put_142 rfl (by decide) rfl rfl ?_
          refine g_goto hJ (tgt := 89) d_X_put_145 (by decide) ?_
          refine g_iload_n hJ d_X_put_89 rfl ?_
          refine g_iconst hJ (v := nI 2) d_X_put_90 (by decide) ?_
          refine g_n_ge hJ (tgt := 148) d_X_put_91 (by decide) (by decide) (by decide) (fun q => absurd q (by decide)) (fun _ => ?_)
          refine g_ga hJ fl_X_2 (n := 26) rfl d_X_put_94 d_X_put_95 rfl ?_
          refine g_iconst hJ (v := nI 2) d_X_put_98 (by decide) ?_
          refine g_iload_n hJ d_X_put_99 rfl ?_
          refine g_imuln hJ d_X_put_100 ?_
          refine g_iload_n hJ d_X_put_101 rfl ?_
          refine g_iaddn hJ d_X_put_102 ?_
          refine g_ga hJ fl_X_22 (n := 2) rfl d_X_put_103 d_X_put_104 rfl ?_
          refine g_iload_n hJ d_X_put_107 rfl ?_
          refine g_iald hJ (k := 22) (n := 2) rfl (by decide) (by omega) d_X_put_108 ?_
          refine g_iast hJ (k := 2) (n := 26) rfl (by decide) (by omega) d_X_put_109 ?_
          refine g_ga hJ fl_X_3 (n := 26) rfl d_X_put_110 d_X_put_111 rfl ?_
          refine g_iconst hJ (v := nI 2) d_X_put_114 (by decide) ?_
          refine g_iload_n hJ d_X_put_115 rfl ?_
          refine g_imuln hJ d_X_put_116 ?_
          refine g_iload_n hJ d_X_put_117 rfl ?_
          refine g_iaddn hJ d_X_put_118 ?_
          refine g_ga hJ fl_X_23 (n := 2) rfl d_X_put_119 d_X_put_120 rfl ?_
          refine g_iload_n hJ d_X_put_123 rfl ?_
          refine g_iald hJ (k := 23) (n := 2) rfl (by decide) (by omega) d_X_put_124 ?_
          refine g_iast hJ (k := 3) (n := 26) rfl (by decide) (by omega) d_X_put_125 ?_
          refine g_ga hJ fl_X_4 (n := 26) rfl d_X_put_126 d_X_put_127 rfl ?_
          refine g_iconst hJ (v := nI 2) d_X_put_130 (by decide) ?_
          refine g_iload_n hJ d_X_put_131 rfl ?_
          refine g_imuln hJ d_X_put_132 ?_
          refine g_iload_n hJ d_X_put_133 rfl ?_
          refine g_iaddn hJ d_X_put_134 ?_
          refine g_ga hJ fl_X_24 (n := 2) rfl d_X_put_135 d_X_put_136 rfl ?_
          refine g_iload_n hJ d_X_put_139 rfl ?_
          refine g_iald hJ (k := 24) (n := 2) rfl (by decide) (by omega) d_X_put_140 ?_
          refine g_iast hJ (k := 4) (n := 26) rfl (by decide) (by omega) d_X_put_141 ?_
          refine g_inc hJ (lv2 := [(0, .ref G.1), (1, .int (nI k)), (2, .int a), (3, .int (nI 2))]) d_X_put_142 rfl (by decide) rfl rfl ?_
          refine g_goto hJ (tgt := 89) d_X_put_145 (by decide) ?_
          refine g_iload_n hJ d_X_put_89 rfl ?_
          refine g_iconst hJ (v := nI 2) d_X_put_90 (by decide) ?_
          refine g_n_ge hJ (tgt := 148) d_X_put_91 (by decide) (by decide) (by decide) (fun _ => ?_) (fun q => absurd q (by decide))
          refine g_aload_n hJ d_X_put_148 rfl ?_
          refine g_dup hJ d_X_put_149 rfl ?_
          refine g_geti hJ fl_X_25 rfl d_X_put_150 ?_
          refine g_top (hn) ?_
          refine g_iconst hJ (v := nI 1) d_X_put_153 (by decide) ?_
          refine g_iaddn hJ d_X_put_154 ?_
          refine g_put hJ fl_X_25 rfl (pt_X_25 _) d_X_put_155 ?_
          refine g_aload_n hJ d_X_put_158 rfl ?_
          refine g_iconst hJ (v := nI 0) d_X_put_159 (by decide) ?_
          refine g_put hJ fl_X_30 rfl pt_X_30_0 d_X_put_160 ?_
          refine g_gi hJ fl_X_25 rfl d_X_put_163 d_X_put_164 rfl ?_
          refine g_top (show upd (upd iv 25 (nI (n + 1))) 30 (nI 0) 25 = nI (n + 1) from rfl) ?_
          exact hret _ _ _ _ _ d_X_put_167 rfl (⟨by unfold q_put; rw [hi, if_pos rfl, if_pos c3, if_pos (by omega)], by unfold ok_put; rw [hi, c3, decide_eq_true (show n < 12 by omega), ix_nI hk31, hav]; rfl⟩)
        · refine g_bipush hJ (v := -3) d_X_put_33 (by decide) ?_
          exact hret _ _ _ _ _ d_X_put_35 rfl (⟨by unfold q_put; rw [hi, if_pos rfl, if_pos c3, if_neg (by omega)], by unfold ok_put; rw [decide_eq_false (show ¬ n < 12 by omega), Bool.and_false]; rfl⟩)
      · refine g_bipush hJ (v := -2) d_X_put_21 (by decide) ?_
        exact hret _ _ _ _ _ d_X_put_23 rfl (⟨by unfold q_put; rw [hi, if_pos rfl, c3]; rfl, by unfold ok_put; rw [c3, Bool.and_false]; rfl⟩)
    · refine g_iconst hJ (v := -1) d_X_put_12 (by decide) ?_
      exact hret _ _ _ _ _ d_X_put_13 rfl (⟨by unfold q_put; rw [inB_nle (by omega) c2]; rfl, by unfold ok_put; rw [inB_nle (by omega) c2]; rfl⟩)
set_option maxHeartbeats 4000000 in
set_option maxRecDepth 100000 in
theorem l_X_remove {G : gG} {l : Launch} {J : gJT} {post : Int32 → gS → Prop} {iv : Nat → Int32} {n q0 : Nat} {a : Int32} (hJ : gR false G l (gRm 1 23) b_X_remove 4 J)  (hn : iv 25 = nI n) (hn12 : n ≤ 12) :
    ∀ (d q : Nat) (av : Nat → Nat → Int32), q + d + 1 = n → J 43 [(0, .ref G.1), (1, .int (nI q0)), (2, .int a), (3, .int (nI (q + d + 1)))] [] iv (sdG pX av q d) → J 21 [(0, .ref G.1), (1, .int (nI q0)), (2, .int a), (3, .int (nI (q + 1)))] [] iv av := by
  intro d
  induction d with
  | zero =>
    intro q av hd nx
    refine g_iload_n hJ d_X_remove_21 rfl ?_
    refine g_gi hJ fl_X_25 rfl d_X_remove_22 d_X_remove_23 rfl ?_
    refine g_top (hn) ?_
    refine g_n_ge hJ (tgt := 43) d_X_remove_26 (by decide) (by omega) (by omega) (fun _ => ?_) (fun q => absurd q (by omega))
    exact nx
  | succ d ih =>
    intro q av hd nx
    refine g_iload_n hJ d_X_remove_21 rfl ?_
    refine g_gi hJ fl_X_25 rfl d_X_remove_22 d_X_remove_23 rfl ?_
    refine g_top (hn) ?_
    refine g_n_ge hJ (tgt := 43) d_X_remove_26 (by decide) (by omega) (by omega) (fun q => absurd q (by omega)) (fun _ => ?_)
    refine g_aload_n hJ d_X_remove_29 rfl ?_
    refine g_iload_n hJ d_X_remove_30 rfl ?_
    refine g_iload_n hJ d_X_remove_31 rfl ?_
    refine g_iconst hJ (v := nI 1) d_X_remove_32 (by decide) ?_
    refine g_isubn hJ d_X_remove_33 (by omega) ?_
    refine g_top (show nI (q + 1 - 1) = nI q from rfl) ?_
    refine g_callv hJ k_X_X_carry (c_X_carry G l iv av (q + 1) q (by omega) (by omega)) (by decide) (by decide) rfl (rest := []) rfl (Nat.le_of_ble_eq_true rfl) d_X_remove_34 (fun u hu => ?_)
    subst hu
    dsimp only
    refine g_inc hJ (lv2 := [(0, .ref G.1), (1, .int (nI q0)), (2, .int a), (3, .int (nI (q + 1 + 1)))]) d_X_remove_37 rfl (by decide) rfl rfl ?_
    refine g_goto hJ (tgt := 21) d_X_remove_40 (by decide) ?_
    refine ih (q + 1) _ (by omega) ?_
    rw [show q + 1 + d + 1 = q + (d + 1) + 1 by omega]
    exact nx
set_option maxHeartbeats 4000000 in
set_option maxRecDepth 100000 in
theorem c_X_remove (G : gG) (l : Launch) (iv : Nat → Int32) (av : Nat → Nat → Int32) (n : Nat) (hn : iv 25 = nI n) (hn12 : n ≤ 12) (x : Int32) : gM false G l y_X_remove b_X_remove 4 (gRm 1 23) .int [.int x] iv av (fun r u => r = q_remove n (vX av 5) x ∧ u = if inB n x = true then (upd (upd iv 25 (nI (n - 1))) 30 (nI 0), sdG pX av (ix x) (n - 1 - ix x)) else (iv, av)) := by
  refine g_met rfl (Nat.le_of_ble_eq_true rfl) (fun J hJ hret => ?_)
  refine g_lv (lv2 := [(0, .ref G.1), (1, .int x)]) rfl ?_
  refine g_aload_n hJ d_X_remove_0 rfl ?_
  refine g_iload_n hJ d_X_remove_1 rfl ?_
  refine g_call hJ k_X_X_isRule (c_X_isRule G l iv av n hn hn12 x) (by decide) (by decide) rfl (rest := []) rfl (Nat.le_of_ble_eq_true rfl) d_X_remove_2 (fun r u hu => ?_)
  obtain ⟨rfl, rfl⟩ := hu
  dsimp only
  refine g_bne hJ (tgt := 10) d_X_remove_5 (by decide) (fun c1 => ?_) (fun c1 => ?_)
  · obtain ⟨k, hk, hk31, rfl⟩ := inB_of c1
    refine g_ga hJ fl_X_5 (n := 13) rfl d_X_remove_10 d_X_remove_11 rfl ?_
    refine g_iload_n hJ d_X_remove_14 rfl ?_
    refine g_iald hJ (k := 5) (n := 13) rfl (by decide) (by omega) d_X_remove_15 ?_
    refine g_istore_n hJ (lv2 := [(0, .ref G.1), (1, .int (nI k)), (2, .int (av 5 k))]) d_X_remove_16 (by decide) rfl rfl ?_
    refine g_iload_n hJ d_X_remove_17 rfl ?_
    refine g_iconst hJ (v := nI 1) d_X_remove_18 (by decide) ?_
    refine g_iaddn hJ d_X_remove_19 ?_
    refine g_istore_n hJ (lv2 := [(0, .ref G.1), (1, .int (nI k)), (2, .int (av 5 k)), (3, .int (nI (k + 1)))]) d_X_remove_20 (by decide) rfl rfl ?_
    refine l_X_remove (post := fun _ _ => True) hJ hn hn12 (n - 1 - k) k av (by omega) ?_
    refine g_aload_n hJ d_X_remove_43 rfl ?_
    refine g_dup hJ d_X_remove_44 rfl ?_
    refine g_geti hJ fl_X_25 rfl d_X_remove_45 ?_
    refine g_top (hn) ?_
    refine g_iconst hJ (v := nI 1) d_X_remove_48 (by decide) ?_
    refine g_isubn hJ d_X_remove_49 (by omega) ?_
    refine g_put hJ fl_X_25 rfl (pt_X_25 _) d_X_remove_50 ?_
    refine g_aload_n hJ d_X_remove_53 rfl ?_
    refine g_iconst hJ (v := nI 0) d_X_remove_54 (by decide) ?_
    refine g_put hJ fl_X_30 rfl pt_X_30_0 d_X_remove_55 ?_
    refine g_iload_n hJ d_X_remove_58 rfl ?_
    exact hret _ _ _ _ _ d_X_remove_59 rfl (⟨by unfold q_remove; rw [inB_t hk hk31, if_pos rfl, ix_nI hk31]; rfl, by rw [inB_t hk hk31, if_pos rfl, ix_nI hk31]⟩)
  · refine g_iconst hJ (v := -1) d_X_remove_8 (by decide) ?_
    exact hret _ _ _ _ _ d_X_remove_9 rfl (⟨by unfold q_remove; rw [c1]; rfl, by rw [c1]; rfl⟩)
set_option maxHeartbeats 4000000 in
set_option maxRecDepth 100000 in
theorem l_X_move1 {G : gG} {l : Launch} {J : gJT} {post : Int32 → gS → Prop} {iv : Nat → Int32} {f t : Nat} (hJ : gR false G l (gRm 1 23) b_X_move 4 J)  (ht : t < 12) :
    ∀ (d i : Nat) (av : Nat → Nat → Int32), t - i = d → i < 12 → (∀ v : Int32, J 49 [(0, .ref G.1), (1, .int (nI f)), (2, .int (nI t)), (3, .int v)] [] iv (sdG pX av i d)) → J 30 [(0, .ref G.1), (1, .int (nI f)), (2, .int (nI t)), (3, .int (nI i))] [] iv av := by
  intro d
  induction d with
  | zero =>
    intro i av hd hi nx
    refine g_iload_n hJ d_X_move_30 rfl ?_
    refine g_iload_n hJ d_X_move_31 rfl ?_
    refine g_n_ge hJ (tgt := 49) d_X_move_32 (by decide) (by omega) (by omega) (fun _ => ?_) (fun q => absurd q (by omega))
    exact nx _
  | succ d ih =>
    intro i av hd hi nx
    refine g_iload_n hJ d_X_move_30 rfl ?_
    refine g_iload_n hJ d_X_move_31 rfl ?_
    refine g_n_ge hJ (tgt := 49) d_X_move_32 (by decide) (by omega) (by omega) (fun q => absurd q (by omega)) (fun _ => ?_)
    refine g_aload_n hJ d_X_move_35 rfl ?_
    refine g_iload_n hJ d_X_move_36 rfl ?_
    refine g_iconst hJ (v := nI 1) d_X_move_37 (by decide) ?_
    refine g_iaddn hJ d_X_move_38 ?_
    refine g_iload_n hJ d_X_move_39 rfl ?_
    refine g_callv hJ k_X_X_carry (c_X_carry G l iv av (i + 1) i (by omega) (by omega)) (by decide) (by decide) rfl (rest := []) rfl (Nat.le_of_ble_eq_true rfl) d_X_move_40 (fun u hu => ?_)
    subst hu
    dsimp only
    refine g_inc hJ (lv2 := [(0, .ref G.1), (1, .int (nI f)), (2, .int (nI t)), (3, .int (nI (i + 1)))]) d_X_move_43 rfl (by decide) rfl rfl ?_
    refine g_goto hJ (tgt := 30) d_X_move_46 (by decide) ?_
    exact ih (i + 1) _ (by omega) (by omega) nx
set_option maxHeartbeats 4000000 in
set_option maxRecDepth 100000 in
theorem l_X_move2 {G : gG} {l : Launch} {J : gJT} {post : Int32 → gS → Prop} {iv : Nat → Int32} {f t : Nat} (hJ : gR false G l (gRm 1 23) b_X_move 4 J)  (ht : t < 12) :
    ∀ (d i : Nat) (av : Nat → Nat → Int32), i - t = d → i < 12 → (∀ v : Int32, J 70 [(0, .ref G.1), (1, .int (nI f)), (2, .int (nI t)), (3, .int v)] [] iv (shG pX av t d)) → J 51 [(0, .ref G.1), (1, .int (nI f)), (2, .int (nI t)), (3, .int (nI i))] [] iv av := by
  intro d
  induction d with
  | zero =>
    intro i av hd hi nx
    refine g_iload_n hJ d_X_move_51 rfl ?_
    refine g_iload_n hJ d_X_move_52 rfl ?_
    refine g_n_le hJ (tgt := 70) d_X_move_53 (by decide) (by omega) (by omega) (fun _ => ?_) (fun q => absurd q (by omega))
    exact nx _
  | succ d ih =>
    intro i av hd hi nx
    have ei : i = t + d + 1 := by omega
    subst ei
    refine g_iload_n hJ d_X_move_51 rfl ?_
    refine g_iload_n hJ d_X_move_52 rfl ?_
    refine g_n_le hJ (tgt := 70) d_X_move_53 (by decide) (by omega) (by omega) (fun q => absurd q (by omega)) (fun _ => ?_)
    refine g_aload_n hJ d_X_move_56 rfl ?_
    refine g_iload_n hJ d_X_move_57 rfl ?_
    refine g_iconst hJ (v := nI 1) d_X_move_58 (by decide) ?_
    refine g_isubn hJ d_X_move_59 (by omega) ?_
    refine g_top (show nI (t + d + 1 - 1) = nI (t + d) from rfl) ?_
    refine g_iload_n hJ d_X_move_60 rfl ?_
    refine g_callv hJ k_X_X_carry (c_X_carry G l iv av (t + d) (t + d + 1) (by omega) (by omega)) (by decide) (by decide) rfl (rest := []) rfl (Nat.le_of_ble_eq_true rfl) d_X_move_61 (fun u hu => ?_)
    subst hu
    dsimp only
    refine g_dec hJ (lv2 := [(0, .ref G.1), (1, .int (nI f)), (2, .int (nI t)), (3, .int (nI (t + d)))]) d_X_move_64 rfl (by decide) rfl rfl ?_
    refine g_goto hJ (tgt := 51) d_X_move_67 (by decide) ?_
    exact ih (t + d) _ (by omega) (by omega) nx
set_option maxHeartbeats 4000000 in
set_option maxRecDepth 100000 in
theorem c_X_move (G : gG) (l : Launch) (iv : Nat → Int32) (av : Nat → Nat → Int32) (n : Nat) (hn : iv 25 = nI n) (hn12 : n ≤ 12) (x y : Int32) : gM false G l y_X_move b_X_move 4 (gRm 1 23) .int [.int x, .int y] iv av (fun r u => r = q_move n x y ∧ u = if (inB n x && inB n y) = true then (upd iv 30 (nI 0), cpG pX (shG pX (sdG pX (cpG pX av (ix x) 12) (ix x) (ix y - ix x)) (ix y) (ix x - ix y)) 12 (ix y)) else (iv, av)) := by
  refine g_met rfl (Nat.le_of_ble_eq_true rfl) (fun J hJ hret => ?_)
  refine g_lv (lv2 := [(0, .ref G.1), (1, .int x), (2, .int y)]) rfl ?_
  refine g_aload_n hJ d_X_move_0 rfl ?_
  refine g_iload_n hJ d_X_move_1 rfl ?_
  refine g_call hJ k_X_X_isRule (c_X_isRule G l iv av n hn hn12 x) (by decide) (by decide) rfl (rest := []) rfl (Nat.le_of_ble_eq_true rfl) d_X_move_2 (fun r u hu => ?_)
  obtain ⟨rfl, rfl⟩ := hu
  dsimp only
  refine g_bne hJ (tgt := 10) d_X_move_5 (by decide) (fun c1 => ?_) (fun c1 => ?_)
  · obtain ⟨k, hk, hk31, rfl⟩ := inB_of c1
    refine g_aload_n hJ d_X_move_10 rfl ?_
    refine g_iload_n hJ d_X_move_11 rfl ?_
    refine g_call hJ k_X_X_isRule (c_X_isRule G l iv av n hn hn12 y) (by decide) (by decide) rfl (rest := []) rfl (Nat.le_of_ble_eq_true rfl) d_X_move_12 (fun r u hu => ?_)
    obtain ⟨rfl, rfl⟩ := hu
    dsimp only
    refine g_bne hJ (tgt := 21) d_X_move_15 (by decide) (fun c2 => ?_) (fun c2 => ?_)
    · obtain ⟨j, hj, hj31, rfl⟩ := inB_of c2
      refine g_aload_n hJ d_X_move_21 rfl ?_
      refine g_iload_n hJ d_X_move_22 rfl ?_
      refine g_bipush hJ (v := nI 12) d_X_move_23 (by decide) ?_
      refine g_callv hJ k_X_X_carry (c_X_carry G l iv av k 12 (by omega) (by decide)) (by decide) (by decide) rfl (rest := []) rfl (Nat.le_of_ble_eq_true rfl) d_X_move_25 (fun u hu => ?_)
      subst hu
      dsimp only
      refine g_iload_n hJ d_X_move_28 rfl ?_
      refine g_istore_n hJ (lv2 := [(0, .ref G.1), (1, .int (nI k)), (2, .int (nI j)), (3, .int (nI k))]) d_X_move_29 (by decide) rfl rfl ?_
      refine l_X_move1 (post := fun _ _ => True) (f := k) (t := j) hJ (by omega) (j - k) k _ rfl (by omega) (fun v => ?_)
      refine g_iload_n hJ d_X_move_49 rfl ?_
      refine g_istore_n hJ (lv2 := [(0, .ref G.1), (1, .int (nI k)), (2, .int (nI j)), (3, .int (nI k))]) d_X_move_50 (by decide) rfl rfl ?_
      refine l_X_move2 (post := fun _ _ => True) (f := k) (t := j) hJ (by omega) (k - j) k _ rfl (by omega) (fun v2 => ?_)
      refine g_aload_n hJ d_X_move_70 rfl ?_
      refine g_bipush hJ (v := nI 12) d_X_move_71 (by decide) ?_
      refine g_iload_n hJ d_X_move_73 rfl ?_
      refine g_callv hJ k_X_X_carry (c_X_carry G l iv (shG pX (sdG pX (cpG pX av k 12) k (j - k)) j (k - j)) 12 j (by decide) (by omega)) (by decide) (by decide) rfl (rest := []) rfl (Nat.le_of_ble_eq_true rfl) d_X_move_74 (fun u hu => ?_)
      subst hu
      dsimp only
      refine g_aload_n hJ d_X_move_77 rfl ?_
      refine g_iconst hJ (v := nI 0) d_X_move_78 (by decide) ?_
      refine g_put hJ fl_X_30 rfl pt_X_30_0 d_X_move_79 ?_
      refine g_iconst hJ (v := nI 0) d_X_move_82 (by decide) ?_
      exact hret _ _ _ _ _ d_X_move_83 rfl (⟨by unfold q_move; rw [inB_t hk hk31, if_pos rfl, inB_t hj hj31, if_pos rfl], by rw [inB_t hk hk31, inB_t hj hj31, Bool.and_self, if_pos rfl, ix_nI hk31, ix_nI hj31]⟩)
    · refine g_bipush hJ (v := -2) d_X_move_18 (by decide) ?_
      exact hret _ _ _ _ _ d_X_move_20 rfl (⟨by unfold q_move; rw [inB_t hk hk31, if_pos rfl, c2]; rfl, by rw [c2, Bool.and_false]; rfl⟩)
  · refine g_iconst hJ (v := -1) d_X_move_8 (by decide) ?_
    exact hret _ _ _ _ _ d_X_move_9 rfl (⟨by unfold q_move; rw [c1]; rfl, by rw [c1, Bool.false_and]; rfl⟩)
set_option maxHeartbeats 4000000 in
set_option maxRecDepth 100000 in
theorem c_X_change (G : gG) (l : Launch) (iv : Nat → Int32) (av : Nat → Nat → Int32) (n : Nat) (hn : iv 25 = nI n) (hn12 : n ≤ 12) (x a : Int32) : gM false G l y_X_change b_X_change 4 (gRm 1 21) .int [.int x, .int a] iv av (fun r u => r = q_change n (vX av 5) x a ∧ u = if (inB n x && inB 4 a) = true then (iv, up2 av 5 (ix x) a) else (iv, av)) := by
  refine g_met rfl (Nat.le_of_ble_eq_true rfl) (fun J hJ hret => ?_)
  refine g_lv (lv2 := [(0, .ref G.1), (1, .int x), (2, .int a)]) rfl ?_
  refine g_aload_n hJ d_X_change_0 rfl ?_
  refine g_iload_n hJ d_X_change_1 rfl ?_
  refine g_call hJ k_X_X_isRule (c_X_isRule G l iv av n hn hn12 x) (by decide) (by decide) rfl (rest := []) rfl (Nat.le_of_ble_eq_true rfl) d_X_change_2 (fun r u hu => ?_)
  obtain ⟨rfl, rfl⟩ := hu
  dsimp only
  refine g_bne hJ (tgt := 10) d_X_change_5 (by decide) (fun c1 => ?_) (fun c1 => ?_)
  · obtain ⟨k, hk, hk31, rfl⟩ := inB_of c1
    refine g_iload_n hJ d_X_change_10 rfl ?_
    refine g_calls hJ k_X_X_isAction (c_X_isAction l a) (by decide) (by decide) rfl rfl (Nat.le_of_ble_eq_true rfl) d_X_change_11 ?_
    refine g_bne hJ (tgt := 20) d_X_change_14 (by decide) (fun c2 => ?_) (fun c2 => ?_)
    · refine g_ga hJ fl_X_5 (n := 13) rfl d_X_change_20 d_X_change_21 rfl ?_
      refine g_iload_n hJ d_X_change_24 rfl ?_
      refine g_iald hJ (k := 5) (n := 13) rfl (by decide) (by omega) d_X_change_25 ?_
      refine g_istore_n hJ (lv2 := [(0, .ref G.1), (1, .int (nI k)), (2, .int a), (3, .int (av 5 k))]) d_X_change_26 (by decide) rfl rfl ?_
      refine g_ga hJ fl_X_5 (n := 13) rfl d_X_change_27 d_X_change_28 rfl ?_
      refine g_iload_n hJ d_X_change_31 rfl ?_
      refine g_iload_n hJ d_X_change_32 rfl ?_
      refine g_iast hJ (k := 5) (n := 13) rfl (by decide) (by omega) d_X_change_33 ?_
      refine g_iload_n hJ d_X_change_34 rfl ?_
      exact hret _ _ _ _ _ d_X_change_35 rfl (⟨by unfold q_change; rw [inB_t hk hk31, if_pos rfl, if_pos c2, ix_nI hk31]; rfl, by rw [inB_t hk hk31, c2, Bool.and_self, if_pos rfl, ix_nI hk31]⟩)
    · refine g_bipush hJ (v := -2) d_X_change_17 (by decide) ?_
      exact hret _ _ _ _ _ d_X_change_19 rfl (⟨by unfold q_change; rw [inB_t hk hk31, if_pos rfl, c2]; rfl, by rw [c2, Bool.and_false]; rfl⟩)
  · refine g_iconst hJ (v := -1) d_X_change_8 (by decide) ?_
    exact hret _ _ _ _ _ d_X_change_9 rfl (⟨by unfold q_change; rw [c1]; rfl, by rw [c1, Bool.false_and]; rfl⟩)
set_option maxHeartbeats 4000000 in
set_option maxRecDepth 100000 in
theorem c_X_fallback (G : gG) (l : Launch) (iv : Nat → Int32) (av : Nat → Nat → Int32) (a : Int32) : gM false G l y_X_fallback b_X_fallback 3 (gRm 1 20) .int [.int a] iv av (fun r u => r = q_fallback (iv 26) a ∧ u = if inB 4 a = true then (upd iv 26 a, av) else (iv, av)) := by
  refine g_met rfl (Nat.le_of_ble_eq_true rfl) (fun J hJ hret => ?_)
  refine g_lv (lv2 := [(0, .ref G.1), (1, .int a)]) rfl ?_
  refine g_iload_n hJ d_X_fallback_0 rfl ?_
  refine g_calls hJ k_X_X_isAction (c_X_isAction l a) (by decide) (by decide) rfl rfl (Nat.le_of_ble_eq_true rfl) d_X_fallback_1 ?_
  refine g_bne hJ (tgt := 9) d_X_fallback_4 (by decide) (fun c2 => ?_) (fun c2 => ?_)
  · refine g_gi hJ fl_X_26 rfl d_X_fallback_9 d_X_fallback_10 rfl ?_
    refine g_istore_n hJ (lv2 := [(0, .ref G.1), (1, .int a), (2, .int (iv 26))]) d_X_fallback_13 (by decide) rfl rfl ?_
    refine g_aload_n hJ d_X_fallback_14 rfl ?_
    refine g_iload_n hJ d_X_fallback_15 rfl ?_
    refine g_put hJ fl_X_26 rfl (pt_X_26 _) d_X_fallback_16 ?_
    refine g_iload_n hJ d_X_fallback_19 rfl ?_
    exact hret _ _ _ _ _ d_X_fallback_20 rfl (⟨by unfold q_fallback; rw [if_pos c2], by rw [if_pos c2]⟩)
  · refine g_iconst hJ (v := -1) d_X_fallback_7 (by decide) ?_
    exact hret _ _ _ _ _ d_X_fallback_8 rfl (⟨by unfold q_fallback; rw [c2]; rfl, by rw [c2]; rfl⟩)
set_option maxHeartbeats 4000000 in
set_option maxRecDepth 100000 in
theorem c_X_rules (G : gG) (l : Launch) (iv : Nat → Int32) (av : Nat → Nat → Int32)  : gM false G l y_X_rules b_X_rules 1 (gRm 0 0) .int [] iv av (fun r u => r = iv 25 ∧ u = (iv, av)) := by
  refine g_met rfl (Nat.le_of_ble_eq_true rfl) (fun J hJ hret => ?_)
  refine g_lv (lv2 := [(0, .ref G.1)]) rfl ?_
  refine g_gi hJ fl_X_25 rfl d_X_rules_0 d_X_rules_1 rfl ?_
  exact hret _ _ _ _ _ d_X_rules_4 rfl (⟨rfl, rfl⟩)
end
section
-- what the compiled tables say (no program in sight)
theorem vX_cg {a b : Nat → Nat → Int32} (h : ∀ k, k < 6 ∨ k = 19 → a k = b k) : vX a = vX b := by
  funext j
  unfold vX
  by_cases hj : j < 6
  · rw [if_pos hj, if_pos hj, h j (Or.inl hj)]
  · rw [if_neg hj, if_neg hj, h 19 (Or.inr rfl)]
theorem nI_nm1 {t : Nat} (h : t < 2 ^ 31) : ¬ nI t = -1 := by
  intro z
  have h1 := nI_toInt h
  rw [z] at h1
  have h2 : (-1 : Int32).toInt = -1 := by decide
  omega
/-- a condition as an interval -/
def NC (ax : Nat → Nat → Int32) (c : Nat) : Prop := ∃ out : Bool, ax 8 c = b2 out ∧ (wN (vX ax) c % 8 ≠ 0 → ∀ x : Int32, (decide (ax 6 c ≤ x) && decide (x ≤ ax 7 c)) = (cmpS (wN (vX ax) c % 8) x (ax 4 c) != out))
/-- a chain of tests: the rules in their order -/
def Ch (n T : Nat) (ax : Nat → Nat → Int32) : List Nat → Int32 → Prop
  | [], node => node = -1
  | r :: L, node => ∃ t, t < T ∧ node = nI t ∧ ax 12 t = nI r ∧ r < n ∧ Ch n T ax L (ax 13 t)
theorem Ch_ext {n T T2 : Nat} {ax ax2 : Nat → Nat → Int32} (hT : T ≤ T2) (h : ∀ t, t < T → ax2 12 t = ax 12 t ∧ ax2 13 t = ax 13 t) : ∀ (L : List Nat) (node : Int32), Ch n T ax L node → Ch n T2 ax2 L node
  | [], _, h1 => h1
  | r :: L, node, ⟨t, h1, h2, h3, h4, h5⟩ => ⟨t, by omega, h2, by rw [(h t h1).1]; exact h3, h4, by rw [(h t h1).2]; exact Ch_ext hT h L _ h5⟩
def fol (V : Nat → Nat → Int32) : List Nat → Int32
  | [] => -1
  | r :: L => if hold V r = true then nI r else fol V L
/-- the places among d from i on that have u -/
def flt (u : Nat → Bool) : Nat → Nat → List Nat
  | 0, _ => []
  | d + 1, i => if u i = true then i :: flt u d (i + 1) else flt u d (i + 1)
theorem flt_len (u : Nat → Bool) : ∀ (d i : Nat), (flt u d i).length ≤ d
  | 0, _ => Nat.le_refl 0
  | d + 1, i => by
    have := flt_len u d (i + 1)
    unfold flt
    split
    · simp; omega
    · omega
theorem flt_t {u : Nat → Bool} {d i : Nat} (h : u i = true) : flt u (d + 1) i = i :: flt u d (i + 1) := if_pos h
theorem flt_f {u : Nat → Bool} {d i : Nat} (h : u i = false) : flt u (d + 1) i = flt u d (i + 1) := if_neg (by rw [h]; decide)
theorem flt_cg {u v : Nat → Bool} : ∀ (d i : Nat), (∀ j, i ≤ j → j < i + d → u j = v j) → flt u d i = flt v d i
  | 0, _, _ => rfl
  | d + 1, i, h => by
    unfold flt
    rw [h i (Nat.le_refl i) (by omega), flt_cg d (i + 1) (fun j h1 h2 => h j (by omega) (by omega))]
theorem fol_flt (V : Nat → Nat → Int32) (u : Nat → Bool) : ∀ (d i : Nat), fol V (flt u d i) = if lst (fun r => u r && hold V r) d i < i + d then nI (lst (fun r => u r && hold V r) d i) else -1
  | 0, i => by
    show (-1 : Int32) = if i < i + 0 then _ else -1
    rw [if_neg (by omega)]
  | d + 1, i => by
    have ih := fol_flt V u d (i + 1)
    by_cases hu : u i = true
    · rw [flt_t hu]
      unfold fol
      by_cases hh : hold V i = true
      · rw [if_pos hh, lst_t (show (u i && hold V i) = true by rw [hu, hh]; rfl), if_pos (by omega)]
      · have hh' : hold V i = false := by simpa using hh
        rw [if_neg hh, lst_f (p := fun r => u r && hold V r) (show (u i && hold V i) = false by rw [hh', Bool.and_false]), ih, show i + 1 + d = i + (d + 1) by omega]
    · have hu' : u i = false := by simpa using hu
      rw [flt_f hu', lst_f (p := fun r => u r && hold V r) (show (u i && hold V i) = false by rw [hu', Bool.false_and]), ih, show i + 1 + d = i + (d + 1) by omega]
/-- bits of the rules with q -/
def bm (q : Nat → Bool) : Nat → Nat
  | 0 => 0
  | n + 1 => if q n = true then bm q n ||| 2 ^ n else bm q n
theorem bm_lt (q : Nat → Bool) : ∀ n, bm q n < 2 ^ n
  | 0 => show 0 < 1 by decide
  | n + 1 => by
    have := bm_lt q n
    have h2 : (2 : Nat) ^ n < 2 ^ (n + 1) := Nat.pow_lt_pow_right (by decide) (by omega)
    unfold bm
    split
    · exact Nat.or_lt_two_pow (by omega) h2
    · omega
theorem bm_bit (q : Nat → Bool) : ∀ n r, (bm q n).testBit r = (decide (r < n) && q r)
  | 0, r => by
    show (0 : Nat).testBit r = _
    rw [Nat.zero_testBit]
    simp
  | n + 1, r => by
    have ih := bm_bit q n r
    unfold bm
    by_cases hr : r = n
    · subst hr
      have hd : decide (r < r + 1) = true := by simp
      rw [hd, Bool.true_and]
      split
      · rename_i h
        rw [Nat.testBit_or, Nat.testBit_two_pow_self, Bool.or_true, h]
      · rename_i h
        rw [ih]
        simp at h ⊢
        rw [h]
    · have hd : decide (r < n + 1) = decide (r < n) := by
        by_cases h : r < n
        · simp [h]; omega
        · simp [h]; omega
      rw [hd]
      split
      · rw [Nat.testBit_or, ih, Nat.testBit_two_pow_of_ne (fun h => hr h.symm), Bool.or_false]
      · exact ih
theorem bm_12 (q : Nat → Bool) {n : Nat} (h : n ≤ 12) : bm q n < 4096 := Nat.lt_of_lt_of_le (bm_lt q n) (Nat.le_trans (Nat.pow_le_pow_right (by decide) h) (by decide))
theorem bm_eq {q q2 : Nat → Bool} {n r : Nat} (h : bm q n = bm q2 n) (hr : r < n) : q r = q2 r := by
  have h1 := bm_bit q n r
  have h2 := bm_bit q2 n r
  rw [h, h2, decide_eq_true hr, Bool.true_and, Bool.true_and] at h1
  exact h1.symm
theorem bm_cg {q q2 : Nat → Bool} : ∀ {n : Nat}, (∀ r, r < n → q r = q2 r) → bm q n = bm q2 n
  | 0, _ => rfl
  | n + 1, h => by
    unfold bm
    rw [h n (Nat.lt_succ_self n), bm_cg (n := n) (fun r hr => h r (by omega))]
theorem bm_zero {q : Nat → Bool} {n : Nat} : bm q n = 0 ↔ ∀ r, r < n → q r = false := by
  constructor
  · intro h r hr
    have := bm_bit q n r
    rw [h, Nat.zero_testBit, decide_eq_true hr, Bool.true_and] at this
    exact this.symm
  · intro h
    rw [bm_cg (q2 := fun _ => false) h]
    clear h
    induction n with
    | zero => rfl
    | succ n ih =>
      unfold bm
      rw [if_neg (by decide)]
      exact ih
/-- the numbers' rule sets -/
def hv (V : Nat → Nat → Int32) (n k : Nat) : Nat := bm (fun r => has V r k) n
def plN (V : Nat → Nat → Int32) (n : Nat) : Nat := bm (plV V) n
theorem hv_bit {V : Nat → Nat → Int32} {n k r : Nat} (hr : r < n) : (hv V n k).testBit r = has V r k := by
  unfold hv
  rw [bm_bit, decide_eq_true hr, Bool.true_and]
theorem hv_has {V : Nat → Nat → Int32} {n k k2 r : Nat} (h : hv V n k = hv V n k2) (hr : r < n) : has V r k = has V r k2 := bm_eq (q := fun r => has V r k) (q2 := fun r => has V r k2) h hr
theorem hv_chg {V : Nat → Nat → Int32} {n k : Nat} : chg V n k = !decide (hv V n k = hv V n (k - 1)) := by
  by_cases h : hv V n k = hv V n (k - 1)
  · rw [decide_eq_true h]
    exact any_no (fun r hr => by rw [hv_has h hr]; exact bne_self_eq_false _)
  · rw [decide_eq_false h]
    by_cases hc : chg V n k = true
    · rw [hc]; rfl
    · exfalso
      apply h
      have hc : chg V n k = false := by simpa using hc
      exact bm_cg (fun r hr => by have := any_at hc hr; simpa using this)
/-- the lowest bit -/
def lowb (a : Nat) : Nat := if a = 0 then 0 else 2 ^ lst (fun r => a.testBit r) 12 0
theorem low_ok1 : ∀ a, a < 1024 → nI a &&& -nI a = nI (lowb a) := by decide +kernel
theorem low_ok2 : ∀ a, a < 1024 → nI (a + 1024) &&& -nI (a + 1024) = nI (lowb (a + 1024)) := by decide +kernel
theorem low_ok3 : ∀ a, a < 1024 → nI (a + 2048) &&& -nI (a + 2048) = nI (lowb (a + 2048)) := by decide +kernel
theorem low_ok4 : ∀ a, a < 1024 → nI (a + 3072) &&& -nI (a + 3072) = nI (lowb (a + 3072)) := by decide +kernel
theorem low_ok (a : Nat) (h : a < 4096) : nI a &&& -nI a = nI (lowb a) := by
  rcases (show a < 1024 ∨ (1024 ≤ a ∧ a < 2048) ∨ (2048 ≤ a ∧ a < 3072) ∨ (3072 ≤ a ∧ a < 4096) by omega) with h1 | h1 | h1 | h1
  · exact low_ok1 a h1
  · obtain ⟨b, rfl⟩ : ∃ b, a = b + 1024 := ⟨a - 1024, by omega⟩
    exact low_ok2 b (by omega)
  · obtain ⟨b, rfl⟩ : ∃ b, a = b + 2048 := ⟨a - 2048, by omega⟩
    exact low_ok3 b (by omega)
  · obtain ⟨b, rfl⟩ : ∃ b, a = b + 3072 := ⟨a - 3072, by omega⟩
    exact low_ok4 b (by omega)
def useN (h pl : Nat) : Nat := if lowb (h &&& pl) = 0 then h else h &&& (lowb (h &&& pl) ||| (lowb (h &&& pl) - 1))
theorem bit_hi {a r : Nat} (h : a < 4096) (hr : a.testBit r = true) : r < 12 := by
  rcases Nat.lt_or_ge r 12 with h1 | h1
  · exact h1
  · have : a < 2 ^ r := Nat.lt_of_lt_of_le h (show 4096 ≤ 2 ^ r from Nat.le_trans (by decide) (Nat.pow_le_pow_right (show 0 < 2 by decide) h1))
    rw [Nat.testBit_lt_two_pow this] at hr
    exact absurd hr (by decide)
theorem useN_bit {h pl r : Nat} (hh : h < 4096) : (useN h pl).testBit r = (h.testBit r && !anyB (fun j => h.testBit j && pl.testBit j) r) := by
  have ha : h &&& pl < 4096 := Nat.lt_of_le_of_lt Nat.and_le_left hh
  have hb : ∀ j, (h &&& pl).testBit j = (h.testBit j && pl.testBit j) := fun j => Nat.testBit_and h pl j
  unfold useN
  by_cases h0 : h &&& pl = 0
  · have e : lowb (h &&& pl) = 0 := by rw [h0]; rfl
    rw [if_pos e, any_no (fun j _ => by rw [← hb, h0, Nat.zero_testBit])]
    simp
  · have e : lowb (h &&& pl) = 2 ^ lst (fun r => (h &&& pl).testBit r) 12 0 := if_neg h0
    have hne : ¬ lowb (h &&& pl) = 0 := by rw [e]; exact Nat.ne_of_gt (Nat.two_pow_pos _)
    rw [if_neg hne, e]
    generalize hj : lst (fun r => (h &&& pl).testBit r) 12 0 = j
    have hjlt : j < 12 := by
      rcases Nat.lt_or_ge j 12 with h1 | h1
      · exact h1
      · exfalso
        obtain ⟨i, hi⟩ := Nat.exists_testBit_of_ne_zero h0
        have hi12 := bit_hi ha hi
        have := lst_no (fun r => (h &&& pl).testBit r) 12 0 i (by omega) (by omega)
        rw [hi] at this
        exact absurd this (by decide)
    have hjb : (h.testBit j && pl.testBit j) = true := by
      have := lst_at (fun r => (h &&& pl).testBit r) 12 0 (by omega)
      rw [hj, hb] at this
      exact this
    have hlow : ∀ i, i < j → (h.testBit i && pl.testBit i) = false := fun i hi => by
      have := lst_no (fun r => (h &&& pl).testBit r) 12 0 i (by omega) (by omega)
      rw [hb] at this
      exact this
    rw [Nat.testBit_and, Nat.testBit_or, Nat.testBit_two_pow, Nat.testBit_two_pow_sub_one]
    congr 1
    rcases Nat.lt_trichotomy r j with h1 | h1 | h1
    · rw [any_no (fun i hi => hlow i (by omega)), decide_eq_true h1, Bool.or_true]
      rfl
    · subst h1
      rw [any_no (fun i hi => hlow i hi)]
      simp
    · rw [any_of h1 hjb, decide_eq_false (show ¬ j = r by omega), decide_eq_false (show ¬ r < j by omega)]
      rfl
theorem useN_lt {h pl : Nat} : useN h pl ≤ h := by
  unfold useN
  split
  · exact Nat.le_refl h
  · exact Nat.and_le_left
/-- the chain of a number's rules finds its first match -/
theorem fol_use {V : Nat → Nat → Int32} {n k : Nat} (hn : n ≤ 12) : fol V (flt (fun r => (useN (hv V n k) (plN V n)).testBit r) n 0) = if lst (mt V k) n 0 < n then nI (lst (mt V k) n 0) else -1 := by
  have hh : hv V n k < 4096 := bm_12 _ hn
  have hub : ∀ r, r < n → (useN (hv V n k) (plN V n)).testBit r = (has V r k && !anyB (fun j => has V j k && plV V j) r) := fun r hr => by
    rw [useN_bit hh, hv_bit hr]
    congr 2
    exact any_cg (fun j hj => by rw [hv_bit (show j < n by omega)]; unfold plN; rw [bm_bit, decide_eq_true (show j < n by omega), Bool.true_and])
  have hpl : ∀ r, plV V r = true → hold V r = true := fun r h => by
    unfold plV at h
    simp only [Bool.and_eq_true, decide_eq_true_eq] at h
    unfold hold met
    rw [h.1, h.2]
    rfl
  rw [fol_flt, Nat.zero_add]
  have e : lst (fun r => (useN (hv V n k) (plN V n)).testBit r && hold V r) n 0 = lst (mt V k) n 0 := by
    rw [lst_cg (q := fun r => (has V r k && !anyB (fun j => has V j k && plV V j) r) && hold V r) n 0 (fun j _ hj => by (try dsimp only); rw [hub j (by omega)])]
    rcases Nat.lt_or_ge (lst (mt V k) n 0) n with h1 | h1
    · have ha := lst_at (mt V k) n 0 (by omega)
      have hno := lst_no (mt V k) n 0
      generalize lst (mt V k) n 0 = r at h1 ha hno
      unfold mt at ha
      simp only [Bool.and_eq_true] at ha
      refine lst_is (Nat.zero_le r) (by omega) ?_ (fun j _ hj => ?_)
      · have hany : anyB (fun j => has V j k && plV V j) r = false := any_no (fun j hj => by
          have h2 := hno j (Nat.zero_le j) hj
          unfold mt at h2
          by_cases hp : plV V j = true
          · rw [hpl j hp, Bool.and_true] at h2
            rw [h2, Bool.false_and]
          · have hp : plV V j = false := by simpa using hp
            rw [hp, Bool.and_false])
        rw [hany, ha.1, ha.2]
        rfl
      · have h2 := hno j (Nat.zero_le j) hj
        unfold mt at h2
        by_cases hh2 : hold V j = true
        · rw [hh2, Bool.and_true] at h2
          rw [h2]
          rfl
        · have hh2 : hold V j = false := by simpa using hh2
          rw [hh2, Bool.and_false]
    · have h2 : lst (mt V k) n 0 = n := by
        have := lst_le (mt V k) n 0
        omega
      rw [h2]
      have h3 := lst_none (p := fun r => (has V r k && !anyB (fun j => has V j k && plV V j) r) && hold V r) (d := n) (i := 0) (fun j _ hj => by
        have h4 := lst_no (mt V k) n 0 j (Nat.zero_le j) (by omega)
        unfold mt at h4
        by_cases hh2 : hold V j = true
        · rw [hh2, Bool.and_true] at h4
          (try dsimp only)
          rw [h4]
          rfl
        · have hh2 : hold V j = false := by simpa using hh2
          (try dsimp only)
          rw [hh2, Bool.and_false])
      rw [h3, Nat.zero_add]
  rw [e]
end
section
-- the class: conditions and chains (by x2.py)
theorem ns_eq {i cm out : Bool} (h : i = (cm != out)) (e : b2 i = b2 out) : cm = false := by
  have e2 := b2_inj e
  subst e2
  cases cm <;> cases i <;> first | rfl | exact absurd h (by decide)
theorem ns_ne {i cm out : Bool} (h : i = (cm != out)) (e : ¬ b2 i = b2 out) : cm = true := by
  cases cm <;> cases i <;> cases out <;> first | rfl | exact absurd h (by decide) | exact absurd rfl e
theorem fol_t {V : Nat → Nat → Int32} {r : Nat} {L : List Nat} (h : hold V r = true) : fol V (r :: L) = nI r := if_pos h
theorem fol_f {V : Nat → Nat → Int32} {r : Nat} {L : List Nat} (h : hold V r = false) : fol V (r :: L) = fol V L := if_neg (by rw [h]; decide)
theorem fol_or {V ax : Nat → Nat → Int32} {n T : Nat} : ∀ {L : List Nat} {nd : Int32}, Ch n T ax L nd → fol V L = -1 ∨ ∃ r, r < n ∧ fol V L = nI r
  | [], _, _ => Or.inl rfl
  | r :: L, _, ⟨t, _, _, _, hr, hC⟩ => by
    by_cases h : hold V r = true
    · exact Or.inr ⟨r, hr, fol_t h⟩
    · have h : hold V r = false := by simpa using h
      rw [fol_f h]
      exact fol_or hC
def vfo (V : Nat → Nat → Int32) (other : Int32) (L : List Nat) : Int32 := if fol V L = -1 then other else V 5 (ix (fol V L))
/-- what adding tests leaves alone -/
def TF (iv0 : Nat → Int32) (av0 : Nat → Nat → Int32) (T0 : Nat) (iv : Nat → Int32) (av : Nat → Nat → Int32) (T : Nat) : Prop := iv 29 = nI T ∧ T0 ≤ T ∧ (∀ a, a ≠ 29 → iv a = iv0 a) ∧ (∀ a, a ≠ 12 → a ≠ 13 → av a = av0 a) ∧ (∀ j, j < T0 → av 12 j = av0 12 j ∧ av 13 j = av0 13 j)
theorem TF.rf {iv : Nat → Int32} {av : Nat → Nat → Int32} {T : Nat} (h : iv 29 = nI T) : TF iv av T iv av T := ⟨h, Nat.le_refl T, fun _ _ => rfl, fun _ _ _ => rfl, fun _ _ => ⟨rfl, rfl⟩⟩
theorem TF_tr {i0 i1 i2 : Nat → Int32} {a0 a1 a2 : Nat → Nat → Int32} {T0 T1 T2 : Nat} (h : TF i0 a0 T0 i1 a1 T1) (h2 : TF i1 a1 T1 i2 a2 T2) : TF i0 a0 T0 i2 a2 T2 :=
  ⟨h2.1, Nat.le_trans h.2.1 h2.2.1, fun a ha => (h2.2.2.1 a ha).trans (h.2.2.1 a ha), fun a h3 h4 => (h2.2.2.2.1 a h3 h4).trans (h.2.2.2.1 a h3 h4), fun j hj => ⟨((h2.2.2.2.2 j (Nat.lt_of_lt_of_le hj h.2.1)).1).trans (h.2.2.2.2 j hj).1, ((h2.2.2.2.2 j (Nat.lt_of_lt_of_le hj h.2.1)).2).trans (h.2.2.2.2 j hj).2⟩⟩
def ChP (n T h pl : Nat) (iv : Nat → Int32) (av : Nat → Nat → Int32) (r : Int32) (u : gS) : Prop := ∃ T2, T2 ≤ T + n ∧ TF iv av T u.1 u.2 T2 ∧ Ch n T2 u.2 (flt (fun i => (useN h pl).testBit i) n 0) r
theorem tb_lt (b : Bool) : b.toNat < 2 ^ 31 := by cases b <;> decide
theorem tb_f {b : Bool} (h : b.toNat ≠ 1) : b = false := by
  cases b
  · rfl
  · exact absurd rfl h
theorem tb_t {b : Bool} (h : b.toNat = 1) : b = true := by
  cases b
  · exact absurd h (by decide)
  · rfl
theorem dec_nI {d : Nat} : nI d + Int32.ofInt (-1) = nI d - nI 1 := by
  rw [Int32.sub_eq_add_neg]
  rfl
theorem lowb_lt {a : Nat} (h : a < 4096) : lowb a < 4096 := by
  unfold lowb
  split
  · decide
  · rename_i h0
    have h1 : lst (fun r => a.testBit r) 12 0 < 12 := by
      rcases Nat.lt_or_ge (lst (fun r => a.testBit r) 12 0) 12 with h1 | h1
      · exact h1
      · exfalso
        obtain ⟨i, hi⟩ := Nat.exists_testBit_of_ne_zero h0
        have hi12 := bit_hi h hi
        have := lst_no (fun r => a.testBit r) 12 0 i (by omega) (by omega)
        rw [hi] at this
        exact absurd this (by decide)
    exact Nat.lt_of_lt_of_le (Nat.pow_lt_pow_right (by decide) h1) (by decide)
set_option maxHeartbeats 4000000 in
set_option maxRecDepth 100000 in
theorem c_X_meets (G : gG) (l : Launch) (iv : Nat → Int32) (av : Nat → Nat → Int32) (c w : Nat) (hc : c < 24) (hw : w < 16) (hwc : av 2 c = nI w) (hNC : NC av c) : gM false G l y_X_meets b_X_meets 4 (gRm 0 0) .boolean [.int (nI c)] iv av (fun r u => r = b2 (met (vX av) c) ∧ u = (iv, av)) := by
  refine g_met rfl (Nat.le_of_ble_eq_true rfl) (fun J hJ hret => ?_)
  refine g_lv (lv2 := [(0, .ref G.1), (1, .int (nI c))]) rfl ?_
  have hN : wN (vX av) c = w := wN_of hwc hw
  obtain ⟨out, h8, hcmp⟩ := hNC
  rw [hN] at hcmp
  refine g_ga hJ fl_X_19 (n := 2) rfl d_X_meets_0 d_X_meets_1 rfl ?_
  refine g_ga hJ fl_X_2 (n := 26) rfl d_X_meets_4 d_X_meets_5 rfl ?_
  refine g_iload_n hJ d_X_meets_8 rfl ?_
  refine g_iald hJ (k := 2) (n := 26) rfl (by decide) (by omega) d_X_meets_9 ?_
  refine g_top (hwc) ?_
  refine g_iconst hJ (v := nI 3) d_X_meets_10 (by decide) ?_
  refine g_ishr hJ d_X_meets_11 ?_
  refine g_top (nI_shr3 (by omega)) ?_
  refine g_iald hJ (k := 19) (n := 2) rfl (by decide) (by omega) d_X_meets_12 ?_
  refine g_ga hJ fl_X_3 (n := 26) rfl d_X_meets_13 d_X_meets_14 rfl ?_
  refine g_iload_n hJ d_X_meets_17 rfl ?_
  refine g_iald hJ (k := 3) (n := 26) rfl (by decide) (by omega) d_X_meets_18 ?_
  refine g_iand hJ d_X_meets_19 ?_
  refine g_istore_n hJ (lv2 := [(0, .ref G.1), (1, .int (nI c)), (2, .int ((av 19 (w / 8)) &&& (av 3 c)))]) d_X_meets_20 (by decide) rfl rfl ?_
  refine g_ga hJ fl_X_2 (n := 26) rfl d_X_meets_21 d_X_meets_22 rfl ?_
  refine g_iload_n hJ d_X_meets_25 rfl ?_
  refine g_iald hJ (k := 2) (n := 26) rfl (by decide) (by omega) d_X_meets_26 ?_
  refine g_top (hwc) ?_
  refine g_bipush hJ (v := nI 7) d_X_meets_27 (by decide) ?_
  refine g_iand hJ d_X_meets_29 ?_
  refine g_top (nI_and7 (by omega)) ?_
  refine g_nz hJ (tgt := 35) d_X_meets_30 (by decide) (by omega) (fun c0 => ?_) (fun c0 => ?_)
  · have hq := hcmp c0 (av 19 (w / 8) &&& av 3 c)
    refine g_ga hJ fl_X_6 (n := 24) rfl d_X_meets_35 d_X_meets_36 rfl ?_
    refine g_iload_n hJ d_X_meets_39 rfl ?_
    refine g_iald hJ (k := 6) (n := 24) rfl (by decide) (by omega) d_X_meets_40 ?_
    refine g_iload_n hJ d_X_meets_41 rfl ?_
    refine g_icmp_gt hJ (tgt := 59) d_X_meets_42 (by decide) (fun c1 => ?_) (fun c1 => ?_)
    · rw [decide_eq_false (Int32.not_le.mpr c1), Bool.false_and] at hq
      refine g_iconst hJ (v := nI 0) d_X_meets_59 (by decide) ?_
      refine g_istore_n hJ (lv2 := [(0, .ref G.1), (1, .int (nI c)), (2, .int ((av 19 (w / 8)) &&& (av 3 c))), (3, .int (nI 0))]) d_X_meets_60 (by decide) rfl rfl ?_
      refine g_iload_n hJ d_X_meets_61 rfl ?_
      refine g_ga hJ fl_X_8 (n := 24) rfl d_X_meets_62 d_X_meets_63 rfl ?_
      refine g_iload_n hJ d_X_meets_66 rfl ?_
      refine g_zald hJ (k := 8) (n := 24) rfl rfl (by omega) d_X_meets_67 ?_
      refine g_top (h8) ?_
      refine g_icmp_eq hJ (tgt := 75) d_X_meets_68 (by decide) (fun e => ?_) (fun e => ?_)
      · refine g_iconst hJ (v := nI 0) d_X_meets_75 (by decide) ?_
        exact hret _ _ _ _ _ d_X_meets_76 rfl (⟨b2_nof (by unfold met; rw [hN]; exact ns_eq hq e), rfl⟩)
      · refine g_iconst hJ (v := nI 1) d_X_meets_71 (by decide) ?_
        refine g_goto hJ (tgt := 76) d_X_meets_72 (by decide) ?_
        exact hret _ _ _ _ _ d_X_meets_76 rfl (⟨b2_of (by unfold met; rw [hN]; exact ns_ne hq e), rfl⟩)
    · refine g_iload_n hJ d_X_meets_45 rfl ?_
      refine g_ga hJ fl_X_7 (n := 24) rfl d_X_meets_46 d_X_meets_47 rfl ?_
      refine g_iload_n hJ d_X_meets_50 rfl ?_
      refine g_iald hJ (k := 7) (n := 24) rfl (by decide) (by omega) d_X_meets_51 ?_
      refine g_icmp_gt hJ (tgt := 59) d_X_meets_52 (by decide) (fun c2 => ?_) (fun c2 => ?_)
      · rw [decide_eq_false (Int32.not_le.mpr c2), Bool.and_false] at hq
        refine g_iconst hJ (v := nI 0) d_X_meets_59 (by decide) ?_
        refine g_istore_n hJ (lv2 := [(0, .ref G.1), (1, .int (nI c)), (2, .int ((av 19 (w / 8)) &&& (av 3 c))), (3, .int (nI 0))]) d_X_meets_60 (by decide) rfl rfl ?_
        refine g_iload_n hJ d_X_meets_61 rfl ?_
        refine g_ga hJ fl_X_8 (n := 24) rfl d_X_meets_62 d_X_meets_63 rfl ?_
        refine g_iload_n hJ d_X_meets_66 rfl ?_
        refine g_zald hJ (k := 8) (n := 24) rfl rfl (by omega) d_X_meets_67 ?_
        refine g_top (h8) ?_
        refine g_icmp_eq hJ (tgt := 75) d_X_meets_68 (by decide) (fun e => ?_) (fun e => ?_)
        · refine g_iconst hJ (v := nI 0) d_X_meets_75 (by decide) ?_
          exact hret _ _ _ _ _ d_X_meets_76 rfl (⟨b2_nof (by unfold met; rw [hN]; exact ns_eq hq e), rfl⟩)
        · refine g_iconst hJ (v := nI 1) d_X_meets_71 (by decide) ?_
          refine g_goto hJ (tgt := 76) d_X_meets_72 (by decide) ?_
          exact hret _ _ _ _ _ d_X_meets_76 rfl (⟨b2_of (by unfold met; rw [hN]; exact ns_ne hq e), rfl⟩)
      · rw [decide_eq_true (Int32.not_lt.mp c1), decide_eq_true (Int32.not_lt.mp c2), Bool.and_self] at hq
        refine g_iconst hJ (v := nI 1) d_X_meets_55 (by decide) ?_
        refine g_goto hJ (tgt := 60) d_X_meets_56 (by decide) ?_
        refine g_istore_n hJ (lv2 := [(0, .ref G.1), (1, .int (nI c)), (2, .int ((av 19 (w / 8)) &&& (av 3 c))), (3, .int (nI 1))]) d_X_meets_60 (by decide) rfl rfl ?_
        refine g_iload_n hJ d_X_meets_61 rfl ?_
        refine g_ga hJ fl_X_8 (n := 24) rfl d_X_meets_62 d_X_meets_63 rfl ?_
        refine g_iload_n hJ d_X_meets_66 rfl ?_
        refine g_zald hJ (k := 8) (n := 24) rfl rfl (by omega) d_X_meets_67 ?_
        refine g_top (h8) ?_
        refine g_icmp_eq hJ (tgt := 75) d_X_meets_68 (by decide) (fun e => ?_) (fun e => ?_)
        · refine g_iconst hJ (v := nI 0) d_X_meets_75 (by decide) ?_
          exact hret _ _ _ _ _ d_X_meets_76 rfl (⟨b2_nof (by unfold met; rw [hN]; exact ns_eq hq e), rfl⟩)
        · refine g_iconst hJ (v := nI 1) d_X_meets_71 (by decide) ?_
          refine g_goto hJ (tgt := 76) d_X_meets_72 (by decide) ?_
          exact hret _ _ _ _ _ d_X_meets_76 rfl (⟨b2_of (by unfold met; rw [hN]; exact ns_ne hq e), rfl⟩)
  · refine g_iconst hJ (v := nI 1) d_X_meets_33 (by decide) ?_
    exact hret _ _ _ _ _ d_X_meets_34 rfl (⟨b2_of (by unfold met; rw [hN, c0]; rfl), rfl⟩)
set_option maxHeartbeats 4000000 in
set_option maxRecDepth 100000 in
theorem c_X_holds (G : gG) (l : Launch) (iv : Nat → Int32) (av : Nat → Nat → Int32) (n : Nat) (hV : RVal n (vX av)) (hNC : ∀ c, c < 2 * n → NC av c) (q : Nat) (hq : q < n) : gM false G l y_X_holds b_X_holds 2 (gRm 1 23) .boolean [.int (nI q)] iv av (fun r u => r = b2 (hold (vX av) q) ∧ u = (iv, av)) := by
  refine g_met rfl (Nat.le_of_ble_eq_true rfl) (fun J hJ hret => ?_)
  refine g_lv (lv2 := [(0, .ref G.1), (1, .int (nI q))]) rfl ?_
  obtain ⟨hn12, -, hV2⟩ := hV
  obtain ⟨w0, h01, h02, h03⟩ := hV2 (2 * q) (by omega)
  obtain ⟨w1, h11, h12, h13⟩ := hV2 (2 * q + 1) (by omega)
  refine g_aload_n hJ d_X_holds_0 rfl ?_
  refine g_iconst hJ (v := nI 2) d_X_holds_1 (by decide) ?_
  refine g_iload_n hJ d_X_holds_2 rfl ?_
  refine g_imuln hJ d_X_holds_3 ?_
  refine g_call hJ k_X_X_meets (c_X_meets G l iv av (2 * q) w0 (by omega) h01 h03 (hNC _ (by omega))) (by decide) (by decide) rfl (rest := []) rfl (Nat.le_of_ble_eq_true rfl) d_X_holds_4 (fun r u hu => ?_)
  obtain ⟨rfl, rfl⟩ := hu
  dsimp only
  refine g_beq hJ (tgt := 26) d_X_holds_7 (by decide) (fun c => ?_) (fun c => ?_)
  · refine g_iconst hJ (v := nI 0) d_X_holds_26 (by decide) ?_
    exact hret _ _ _ _ _ d_X_holds_27 rfl (⟨b2_nof (by unfold hold; rw [c]; rfl), rfl⟩)
  · refine g_aload_n hJ d_X_holds_10 rfl ?_
    refine g_iconst hJ (v := nI 2) d_X_holds_11 (by decide) ?_
    refine g_iload_n hJ d_X_holds_12 rfl ?_
    refine g_imuln hJ d_X_holds_13 ?_
    refine g_iconst hJ (v := nI 1) d_X_holds_14 (by decide) ?_
    refine g_iaddn hJ d_X_holds_15 ?_
    refine g_call hJ k_X_X_meets (c_X_meets G l iv av (2 * q + 1) w1 (by omega) h11 h13 (hNC _ (by omega))) (by decide) (by decide) rfl (rest := []) rfl (Nat.le_of_ble_eq_true rfl) d_X_holds_16 (fun r u hu => ?_)
    obtain ⟨rfl, rfl⟩ := hu
    dsimp only
    refine g_beq hJ (tgt := 26) d_X_holds_19 (by decide) (fun c2 => ?_) (fun c2 => ?_)
    · refine g_iconst hJ (v := nI 0) d_X_holds_26 (by decide) ?_
      exact hret _ _ _ _ _ d_X_holds_27 rfl (⟨b2_nof (by unfold hold; rw [c2, Bool.and_false]), rfl⟩)
    · refine g_iconst hJ (v := nI 1) d_X_holds_22 (by decide) ?_
      refine g_goto hJ (tgt := 27) d_X_holds_23 (by decide) ?_
      exact hret _ _ _ _ _ d_X_holds_27 rfl (⟨b2_of (by unfold hold; rw [c, c2]; rfl), rfl⟩)
set_option maxHeartbeats 4000000 in
set_option maxRecDepth 100000 in
theorem l_X_follow {G : gG} {l : Launch} {J : gJT} {post : Int32 → gS → Prop} {iv : Nat → Int32} {av : Nat → Nat → Int32} {n T : Nat} {nd : Int32} (hJ : gR false G l (gRm 2 44) b_X_follow 4 J) (hret : ∀ (pc : Nat) (lv : List (Nat × Value)) (v : Int32) (iv2 : Nat → Int32) (av2 : Nat → Nat → Int32), decode b_X_follow pc = .ok (.ireturn, 1) → narrow .int (.int v) = .int v → post v (iv2, av2) → J pc lv [.int v] iv2 av2) (hT : T ≤ 400) (hV : RVal n (vX av)) (hNC : ∀ c, c < 2 * n → NC av c) :
    ∀ (L : List Nat) (k : Nat) (a : Int32), k + L.length ≤ 12 → Ch n T av L a → (∀ v, v = fol (vX av) L → post v (iv, av)) → J 4 [(0, .ref G.1), (1, .int nd), (2, .int a), (3, .int (nI k))] [] iv av := by
  have hn12 := hV.1
  intro L
  induction L with
  | nil =>
    intro k a hk hC hp
    have ea : a = -1 := hC
    subst ea
    refine g_iload_n hJ d_X_follow_4 rfl ?_
    refine g_bipush hJ (v := nI 12) d_X_follow_5 (by decide) ?_
    refine g_n_ge hJ (tgt := 48) d_X_follow_7 (by decide) (by omega) (by omega) (fun c0 => ?_) (fun c0 => ?_)
    · refine g_iconst hJ (v := -1) d_X_follow_48 (by decide) ?_
      exact hret _ _ _ _ _ d_X_follow_49 rfl (hp _ rfl)
    · refine g_iload_n hJ d_X_follow_10 rfl ?_
      refine g_iconst hJ (v := -1) d_X_follow_11 (by decide) ?_
      refine g_icmp_eq hJ (tgt := 48) d_X_follow_12 (by decide) (fun _ => ?_) (fun q => absurd q (fun h => h rfl))
      refine g_iconst hJ (v := -1) d_X_follow_48 (by decide) ?_
      exact hret _ _ _ _ _ d_X_follow_49 rfl (hp _ rfl)
  | cons r L ih =>
    intro k a hk hC hp
    obtain ⟨t, ht, ea, h12, hr, hC2⟩ := hC
    subst ea
    have hk2 : k + (L.length + 1) ≤ 12 := hk
    refine g_iload_n hJ d_X_follow_4 rfl ?_
    refine g_bipush hJ (v := nI 12) d_X_follow_5 (by decide) ?_
    refine g_n_ge hJ (tgt := 48) d_X_follow_7 (by decide) (by omega) (by omega) (fun q => absurd q (by omega)) (fun _ => ?_)
    refine g_iload_n hJ d_X_follow_10 rfl ?_
    refine g_iconst hJ (v := -1) d_X_follow_11 (by decide) ?_
    refine g_icmp_eq hJ (tgt := 48) d_X_follow_12 (by decide) (fun q => absurd q (nI_nm1 (by omega))) (fun _ => ?_)
    refine g_aload_n hJ d_X_follow_15 rfl ?_
    refine g_ga hJ fl_X_12 (n := 400) rfl d_X_follow_16 d_X_follow_17 rfl ?_
    refine g_iload_n hJ d_X_follow_20 rfl ?_
    refine g_iald hJ (k := 12) (n := 400) rfl (by decide) (by omega) d_X_follow_21 ?_
    refine g_top (h12) ?_
    refine g_call hJ k_X_X_holds (c_X_holds G l iv av n hV hNC r hr) (by decide) (by decide) rfl (rest := []) rfl (Nat.le_of_ble_eq_true rfl) d_X_follow_22 (fun r u hu => ?_)
    obtain ⟨rfl, rfl⟩ := hu
    dsimp only
    refine g_beq hJ (tgt := 35) d_X_follow_25 (by decide) (fun c => ?_) (fun c => ?_)
    · refine g_ga hJ fl_X_13 (n := 400) rfl d_X_follow_35 d_X_follow_36 rfl ?_
      refine g_iload_n hJ d_X_follow_39 rfl ?_
      refine g_iald hJ (k := 13) (n := 400) rfl (by decide) (by omega) d_X_follow_40 ?_
      refine g_istore_n hJ (lv2 := [(0, .ref G.1), (1, .int nd), (2, .int (av 13 t)), (3, .int (nI k))]) d_X_follow_41 (by decide) rfl rfl ?_
      refine g_inc hJ (lv2 := [(0, .ref G.1), (1, .int nd), (2, .int (av 13 t)), (3, .int (nI (k + 1)))]) d_X_follow_42 rfl (by decide) rfl rfl ?_
      refine g_goto hJ (tgt := 4) d_X_follow_45 (by decide) ?_
      exact ih (k + 1) _ (by omega) hC2 (fun v hv => hp v (hv.trans (fol_f c).symm))
    · refine g_ga hJ fl_X_12 (n := 400) rfl d_X_follow_28 d_X_follow_29 rfl ?_
      refine g_iload_n hJ d_X_follow_32 rfl ?_
      refine g_iald hJ (k := 12) (n := 400) rfl (by decide) (by omega) d_X_follow_33 ?_
      refine g_top (h12) ?_
      exact hret _ _ _ _ _ d_X_follow_34 rfl (hp _ (fol_t c).symm)
set_option maxHeartbeats 4000000 in
set_option maxRecDepth 100000 in
theorem c_X_follow (G : gG) (l : Launch) (iv : Nat → Int32) (av : Nat → Nat → Int32) (n T : Nat) (hT : T ≤ 400) (hV : RVal n (vX av)) (hNC : ∀ c, c < 2 * n → NC av c) (L : List Nat) (hL : L.length ≤ 12) (nd : Int32) (hC : Ch n T av L nd) : gM false G l y_X_follow b_X_follow 4 (gRm 2 44) .int [.int nd] iv av (fun r u => r = fol (vX av) L ∧ u = (iv, av)) := by
  refine g_met rfl (Nat.le_of_ble_eq_true rfl) (fun J hJ hret => ?_)
  refine g_lv (lv2 := [(0, .ref G.1), (1, .int nd)]) rfl ?_
  refine g_iload_n hJ d_X_follow_0 rfl ?_
  refine g_istore_n hJ (lv2 := [(0, .ref G.1), (1, .int nd), (2, .int nd)]) d_X_follow_1 (by decide) rfl rfl ?_
  refine g_iconst hJ (v := nI 0) d_X_follow_2 (by decide) ?_
  refine g_istore_n hJ (lv2 := [(0, .ref G.1), (1, .int nd), (2, .int nd), (3, .int (nI 0))]) d_X_follow_3 (by decide) rfl rfl ?_
  exact l_X_follow (post := fun r u => r = fol (vX av) L ∧ u = (iv, av)) hJ hret hT hV hNC L 0 nd (by omega) hC (fun v hv => ⟨hv, rfl⟩)
set_option maxHeartbeats 4000000 in
set_option maxRecDepth 100000 in
theorem c_X_verdict (G : gG) (l : Launch) (iv : Nat → Int32) (av : Nat → Nat → Int32) (n T : Nat) (hT : T ≤ 400) (hV : RVal n (vX av)) (hNC : ∀ c, c < 2 * n → NC av c) (L : List Nat) (hL : L.length ≤ 12) (s : Nat) (hs : s < 32) (hC : Ch n T av L (av 11 s)) : gM false G l y_X_verdict b_X_verdict 3 (gRm 3 67) .int [.int (nI s)] iv av (fun r u => r = vfo (vX av) (iv 26) L ∧ u = (iv, av)) := by
  refine g_met rfl (Nat.le_of_ble_eq_true rfl) (fun J hJ hret => ?_)
  refine g_lv (lv2 := [(0, .ref G.1), (1, .int (nI s))]) rfl ?_
  have hn12 := hV.1
  refine g_aload_n hJ d_X_verdict_0 rfl ?_
  refine g_ga hJ fl_X_11 (n := 32) rfl d_X_verdict_1 d_X_verdict_2 rfl ?_
  refine g_iload_n hJ d_X_verdict_5 rfl ?_
  refine g_iald hJ (k := 11) (n := 32) rfl (by decide) (by omega) d_X_verdict_6 ?_
  refine g_call hJ k_X_X_follow (c_X_follow G l iv av n T hT hV hNC L hL _ hC) (by decide) (by decide) rfl (rest := []) rfl (Nat.le_of_ble_eq_true rfl) d_X_verdict_7 (fun r u hu => ?_)
  obtain ⟨rfl, rfl⟩ := hu
  dsimp only
  refine g_istore_n hJ (lv2 := [(0, .ref G.1), (1, .int (nI s)), (2, .int (fol (vX av) L))]) d_X_verdict_10 (by decide) rfl rfl ?_
  refine g_iload_n hJ d_X_verdict_11 rfl ?_
  refine g_iconst hJ (v := -1) d_X_verdict_12 (by decide) ?_
  refine g_icmp_ne hJ (tgt := 23) d_X_verdict_13 (by decide) (fun c => ?_) (fun c => ?_)
  · obtain ⟨r, hr, er⟩ := (fol_or hC).resolve_left c
    have hvf : vfo (vX av) (iv 26) L = av 5 r := by unfold vfo; rw [if_neg c, er, ix_nI (by omega)]; rfl
    generalize hff : fol (vX av) L = ff at er
    subst er
    refine g_ga hJ fl_X_5 (n := 13) rfl d_X_verdict_23 d_X_verdict_24 rfl ?_
    refine g_iload_n hJ d_X_verdict_27 rfl ?_
    refine g_iald hJ (k := 5) (n := 13) rfl (by decide) (by omega) d_X_verdict_28 ?_
    exact hret _ _ _ _ _ d_X_verdict_29 rfl (⟨hvf.symm, rfl⟩)
  · refine g_gi hJ fl_X_26 rfl d_X_verdict_16 d_X_verdict_17 rfl ?_
    refine g_goto hJ (tgt := 29) d_X_verdict_20 (by decide) ?_
    exact hret _ _ _ _ _ d_X_verdict_29 rfl (⟨by unfold vfo; rw [if_pos c], rfl⟩)
set_option maxHeartbeats 4000000 in
set_option maxRecDepth 100000 in
theorem l_X_test {G : gG} {l : Launch} {J : gJT} {post : Int32 → gS → Prop} {iv : Nat → Int32} {av : Nat → Nat → Int32} {T q : Nat} {o : Int32} (hJ : gR false G l (gRm 0 0) b_X_test 4 J) (hret : ∀ (pc : Nat) (lv : List (Nat × Value)) (v : Int32) (iv2 : Nat → Int32) (av2 : Nat → Nat → Int32), decode b_X_test pc = .ok (.ireturn, 1) → narrow .int (.int v) = .int v → post v (iv2, av2) → J pc lv [.int v] iv2 av2) (hq : q < 12) (hT : T < 400) (h29 : iv 29 = nI T) (hp : ∀ v u, (fun r u => ∃ t T2, r = nI t ∧ t < T2 ∧ T2 ≤ T + 1 ∧ TF iv av T u.1 u.2 T2 ∧ u.2 12 t = nI q ∧ u.2 13 t = o) v u → post v u) :
    ∀ (d i : Nat), i + d = T → J 2 [(0, .ref G.1), (1, .int (nI q)), (2, .int o), (3, .int (nI i))] [] iv av := by
  intro d
  induction d with
  | zero =>
    intro i hi
    refine g_iload_n hJ d_X_test_2 rfl ?_
    refine g_gi hJ fl_X_29 rfl d_X_test_3 d_X_test_4 rfl ?_
    refine g_top (h29) ?_
    refine g_n_ge hJ (tgt := 38) d_X_test_7 (by decide) (by omega) (by omega) (fun _ => ?_) (fun q => absurd q (by omega))
    refine g_gi hJ fl_X_29 rfl d_X_test_38 d_X_test_39 rfl ?_
    refine g_top (h29) ?_
    refine g_sipush hJ (v := nI 400) d_X_test_42 (by decide) ?_
    refine g_n_ne hJ (tgt := 50) d_X_test_45 (by decide) (by omega) (by omega) (fun _ => ?_) (fun q => absurd q (by omega))
    refine g_ga hJ fl_X_12 (n := 400) rfl d_X_test_50 d_X_test_51 rfl ?_
    refine g_gi hJ fl_X_29 rfl d_X_test_54 d_X_test_55 rfl ?_
    refine g_top (h29) ?_
    refine g_iload_n hJ d_X_test_58 rfl ?_
    refine g_iast hJ (k := 12) (n := 400) rfl (by decide) (by omega) d_X_test_59 ?_
    refine g_ga hJ fl_X_13 (n := 400) rfl d_X_test_60 d_X_test_61 rfl ?_
    refine g_gi hJ fl_X_29 rfl d_X_test_64 d_X_test_65 rfl ?_
    refine g_top (h29) ?_
    refine g_iload_n hJ d_X_test_68 rfl ?_
    refine g_iast hJ (k := 13) (n := 400) rfl (by decide) (by omega) d_X_test_69 ?_
    refine g_aload_n hJ d_X_test_70 rfl ?_
    refine g_dup hJ d_X_test_71 rfl ?_
    refine g_geti hJ fl_X_29 rfl d_X_test_72 ?_
    refine g_top (h29) ?_
    refine g_iconst hJ (v := nI 1) d_X_test_75 (by decide) ?_
    refine g_iaddn hJ d_X_test_76 ?_
    refine g_put hJ fl_X_29 rfl (pt_X_29 _) d_X_test_77 ?_
    refine g_gi hJ fl_X_29 rfl d_X_test_80 d_X_test_81 rfl ?_
    refine g_top (show upd iv 29 (nI (T + 1)) 29 = nI (T + 1) from rfl) ?_
    refine g_iconst hJ (v := nI 1) d_X_test_84 (by decide) ?_
    refine g_isubn hJ d_X_test_85 (by omega) ?_
    refine g_top (show nI (T + 1 - 1) = nI T from rfl) ?_
    refine hret _ _ _ _ _ d_X_test_86 rfl (hp _ _ ⟨T, T + 1, rfl, by omega, by omega, ⟨rfl, by omega, fun a ha => pk_un ha, fun a h1 h2 => ?_, fun j hj => ?_⟩, ?_, ?_⟩)
    · dsimp only; rw [up2_k h2, up2_k h1]
    · dsimp only; exact ⟨by rw [up2_k (by decide), up2_j (by omega)], by rw [up2_j (by omega), up2_k (by decide)]⟩
    · dsimp only; rw [up2_k (by decide), up2_self]
    · dsimp only; rw [up2_self]
  | succ d ih =>
    intro i hi
    refine g_iload_n hJ d_X_test_2 rfl ?_
    refine g_gi hJ fl_X_29 rfl d_X_test_3 d_X_test_4 rfl ?_
    refine g_top (h29) ?_
    refine g_n_ge hJ (tgt := 38) d_X_test_7 (by decide) (by omega) (by omega) (fun q => absurd q (by omega)) (fun _ => ?_)
    refine g_ga hJ fl_X_12 (n := 400) rfl d_X_test_10 d_X_test_11 rfl ?_
    refine g_iload_n hJ d_X_test_14 rfl ?_
    refine g_iald hJ (k := 12) (n := 400) rfl (by decide) (by omega) d_X_test_15 ?_
    refine g_iload_n hJ d_X_test_16 rfl ?_
    refine g_icmp_ne hJ (tgt := 32) d_X_test_17 (by decide) (fun c1 => ?_) (fun c1 => ?_)
    · refine g_inc hJ (lv2 := [(0, .ref G.1), (1, .int (nI q)), (2, .int o), (3, .int (nI (i + 1)))]) d_X_test_32 rfl (by decide) rfl rfl ?_
      refine g_goto hJ (tgt := 2) d_X_test_35 (by decide) ?_
      exact ih (i + 1) (by omega)
    · refine g_ga hJ fl_X_13 (n := 400) rfl d_X_test_20 d_X_test_21 rfl ?_
      refine g_iload_n hJ d_X_test_24 rfl ?_
      refine g_iald hJ (k := 13) (n := 400) rfl (by decide) (by omega) d_X_test_25 ?_
      refine g_iload_n hJ d_X_test_26 rfl ?_
      refine g_icmp_ne hJ (tgt := 32) d_X_test_27 (by decide) (fun c2 => ?_) (fun c2 => ?_)
      · refine g_inc hJ (lv2 := [(0, .ref G.1), (1, .int (nI q)), (2, .int o), (3, .int (nI (i + 1)))]) d_X_test_32 rfl (by decide) rfl rfl ?_
        refine g_goto hJ (tgt := 2) d_X_test_35 (by decide) ?_
        exact ih (i + 1) (by omega)
      · refine g_iload_n hJ d_X_test_30 rfl ?_
        exact hret _ _ _ _ _ d_X_test_31 rfl (hp _ _ ⟨i, T, rfl, by omega, by omega, TF.rf h29, c1, c2⟩)
set_option maxHeartbeats 4000000 in
set_option maxRecDepth 100000 in
theorem c_X_test (G : gG) (l : Launch) (iv : Nat → Int32) (av : Nat → Nat → Int32) (T q : Nat) (o : Int32) (hq : q < 12) (hT : T < 400) (h29 : iv 29 = nI T) : gM false G l y_X_test b_X_test 4 (gRm 0 0) .int [.int (nI q), .int o] iv av (fun r u => ∃ t T2, r = nI t ∧ t < T2 ∧ T2 ≤ T + 1 ∧ TF iv av T u.1 u.2 T2 ∧ u.2 12 t = nI q ∧ u.2 13 t = o) := by
  refine g_met rfl (Nat.le_of_ble_eq_true rfl) (fun J hJ hret => ?_)
  refine g_lv (lv2 := [(0, .ref G.1), (1, .int (nI q)), (2, .int o)]) rfl ?_
  refine g_iconst hJ (v := nI 0) d_X_test_0 (by decide) ?_
  refine g_istore_n hJ (lv2 := [(0, .ref G.1), (1, .int (nI q)), (2, .int o), (3, .int (nI 0))]) d_X_test_1 (by decide) rfl rfl ?_
  exact l_X_test (post := fun r u => ∃ t T2, r = nI t ∧ t < T2 ∧ T2 ≤ T + 1 ∧ TF iv av T u.1 u.2 T2 ∧ u.2 12 t = nI q ∧ u.2 13 t = o) hJ hret hq hT h29 (fun v u h => h) T 0 (by omega)
set_option maxHeartbeats 4000000 in
set_option maxRecDepth 100000 in
theorem l_X_buildChain {G : gG} {l : Launch} {J : gJT} {post : Int32 → gS → Prop} {iv0 : Nat → Int32} {av0 : Nat → Nat → Int32} {n T0 h U : Nat} {x2 x3 : Int32} (hJ : gR false G l (gRm 1 23) b_X_buildChain 7 J) (hret : ∀ (pc : Nat) (lv : List (Nat × Value)) (v : Int32) (iv2 : Nat → Int32) (av2 : Nat → Nat → Int32), decode b_X_buildChain pc = .ok (.ireturn, 1) → narrow .int (.int v) = .int v → post v (iv2, av2) → J pc lv [.int v] iv2 av2) (hn12 : n ≤ 12) (hT0 : T0 + n ≤ 400) (hU : U < 4096) (hp : ∀ v u, (fun r u => ∃ T2, T2 ≤ T0 + n ∧ TF iv0 av0 T0 u.1 u.2 T2 ∧ Ch n T2 u.2 (flt (fun i => U.testBit i) n 0) r) v u → post v u) :
    ∀ (d T : Nat) (iv : Nat → Int32) (av : Nat → Nat → Int32) (nd : Int32), d ≤ n → T + d ≤ T0 + n → TF iv0 av0 T0 iv av T → Ch n T av (flt (fun i => U.testBit i) (n - d) d) nd → J 40 [(0, .ref G.1), (1, .int (nI h)), (2, .int x2), (3, .int x3), (4, .int (nI U)), (5, .int nd), (6, .int (nI d - nI 1))] [] iv av := by
  intro d
  induction d with
  | zero =>
    intro T iv av nd hd hT hF hC
    refine g_lv (lv2 := [(0, .ref G.1), (1, .int (nI h)), (2, .int x2), (3, .int x3), (4, .int (nI U)), (5, .int nd), (6, .int (-1))]) rfl ?_
    refine g_iload hJ d_X_buildChain_40 rfl ?_
    refine g_if_lt hJ (tgt := 72) d_X_buildChain_42 (by decide) (fun _ => ?_) (fun q => absurd q (fun h => h (by decide)))
    refine g_iload hJ d_X_buildChain_72 rfl ?_
    exact hret _ _ _ _ _ d_X_buildChain_74 rfl (hp _ _ ⟨T, by omega, hF, hC⟩)
  | succ d ih =>
    intro T iv av nd hd hT hF hC
    refine g_lv (lv2 := [(0, .ref G.1), (1, .int (nI h)), (2, .int x2), (3, .int x3), (4, .int (nI U)), (5, .int nd), (6, .int (nI d))]) (by rw [show nI (d + 1) - nI 1 = nI d from nI_sub (by omega)]) ?_
    have e1 : n - d = (n - (d + 1)) + 1 := by omega
    refine g_iload hJ d_X_buildChain_40 rfl ?_
    refine g_if_lt hJ (tgt := 72) d_X_buildChain_42 (by decide) (fun q => absurd q (nI_pos (by omega))) (fun _ => ?_)
    refine g_iload hJ d_X_buildChain_45 rfl ?_
    refine g_iload hJ d_X_buildChain_47 rfl ?_
    refine g_ishr hJ d_X_buildChain_49 ?_
    refine g_iconst hJ (v := nI 1) d_X_buildChain_50 (by decide) ?_
    refine g_iand hJ d_X_buildChain_51 ?_
    refine g_top (nI_bit (by omega) (by omega)) ?_
    refine g_iconst hJ (v := nI 1) d_X_buildChain_52 (by decide) ?_
    refine g_n_ne hJ (tgt := 66) d_X_buildChain_53 (by decide) (tb_lt _) (by decide) (fun c => ?_) (fun c => ?_)
    · refine g_iinc hJ (v := nI d - nI 1) (lv2 := [(0, .ref G.1), (1, .int (nI h)), (2, .int x2), (3, .int x3), (4, .int (nI U)), (5, .int nd), (6, .int (nI d - nI 1))]) d_X_buildChain_66 rfl dec_nI (by decide) rfl rfl ?_
      refine g_goto hJ (tgt := 40) d_X_buildChain_69 (by decide) ?_
      exact ih T iv av nd (by omega) (by omega) hF (by rw [e1, flt_f (tb_f c)]; exact hC)
    · refine g_aload_n hJ d_X_buildChain_56 rfl ?_
      refine g_iload hJ d_X_buildChain_57 rfl ?_
      refine g_iload hJ d_X_buildChain_59 rfl ?_
      refine g_call hJ k_X_X_test (c_X_test G l iv av T d nd (by omega) (by omega) hF.1) (by decide) (by decide) rfl (rest := []) rfl (Nat.le_of_ble_eq_true rfl) d_X_buildChain_61 (fun r u hu => ?_)
      obtain ⟨t, T2, rfl, ht, hT2, hF2, h12, h13⟩ := hu
      refine g_istore hJ (lv2 := [(0, .ref G.1), (1, .int (nI h)), (2, .int x2), (3, .int x3), (4, .int (nI U)), (5, .int (nI t)), (6, .int (nI d))]) d_X_buildChain_64 (by decide) rfl rfl ?_
      refine g_iinc hJ (v := nI d - nI 1) (lv2 := [(0, .ref G.1), (1, .int (nI h)), (2, .int x2), (3, .int x3), (4, .int (nI U)), (5, .int (nI t)), (6, .int (nI d - nI 1))]) d_X_buildChain_66 rfl dec_nI (by decide) rfl rfl ?_
      refine g_goto hJ (tgt := 40) d_X_buildChain_69 (by decide) ?_
      refine ih T2 u.1 u.2 (nI t) (by omega) (by omega) (TF_tr hF hF2) ?_
      rw [e1, flt_t (tb_t c)]
      exact ⟨t, ht, rfl, h12, by omega, by rw [h13]; exact Ch_ext hF2.2.1 hF2.2.2.2.2 _ _ hC⟩
set_option maxHeartbeats 4000000 in
set_option maxRecDepth 100000 in
theorem c_X_buildChain (G : gG) (l : Launch) (iv : Nat → Int32) (av : Nat → Nat → Int32) (n T h pl : Nat) (hn12 : n ≤ 12) (hn : iv 25 = nI n) (hT : T + n ≤ 400) (h29 : iv 29 = nI T) (h27 : iv 27 = nI pl) (hh : h < 4096) (hpl : pl < 4096) : gM false G l y_X_buildChain b_X_buildChain 7 (gRm 1 23) .int [.int (nI h)] iv av (fun r u => ChP n T h pl iv av r u) := by
  refine g_met rfl (Nat.le_of_ble_eq_true rfl) (fun J hJ hret => ?_)
  refine g_lv (lv2 := [(0, .ref G.1), (1, .int (nI h))]) rfl ?_
  have ha : h &&& pl < 4096 := Nat.lt_of_le_of_lt Nat.and_le_left hh
  have hlb : lowb (h &&& pl) < 4096 := lowb_lt ha
  refine g_iload_n hJ d_X_buildChain_0 rfl ?_
  refine g_gi hJ fl_X_27 rfl d_X_buildChain_1 d_X_buildChain_2 rfl ?_
  refine g_top (h27) ?_
  refine g_iand hJ d_X_buildChain_5 ?_
  refine g_top (nI_and (by omega) (by omega)) ?_
  refine g_istore_n hJ (lv2 := [(0, .ref G.1), (1, .int (nI h)), (2, .int (nI (h &&& pl)))]) d_X_buildChain_6 (by decide) rfl rfl ?_
  refine g_iload_n hJ d_X_buildChain_7 rfl ?_
  refine g_iload_n hJ d_X_buildChain_8 rfl ?_
  refine g_ineg hJ d_X_buildChain_9 ?_
  refine g_iand hJ d_X_buildChain_10 ?_
  refine g_top (low_ok _ ha) ?_
  refine g_istore_n hJ (lv2 := [(0, .ref G.1), (1, .int (nI h)), (2, .int (nI (h &&& pl))), (3, .int (nI (lowb (h &&& pl))))]) d_X_buildChain_11 (by decide) rfl rfl ?_
  refine g_iload_n hJ d_X_buildChain_12 rfl ?_
  refine g_nz hJ (tgt := 20) d_X_buildChain_13 (by decide) (by omega) (fun c0 => ?_) (fun c0 => ?_)
  · have hor : lowb (h &&& pl) ||| (lowb (h &&& pl) - 1) < 4096 := Nat.or_lt_two_pow (n := 12) hlb (by omega)
    refine g_iload_n hJ d_X_buildChain_20 rfl ?_
    refine g_iload_n hJ d_X_buildChain_21 rfl ?_
    refine g_iload_n hJ d_X_buildChain_22 rfl ?_
    refine g_iconst hJ (v := nI 1) d_X_buildChain_23 (by decide) ?_
    refine g_isubn hJ d_X_buildChain_24 (by omega) ?_
    refine g_ior hJ d_X_buildChain_25 ?_
    refine g_top (nI_or (by omega) (by omega)) ?_
    refine g_iand hJ d_X_buildChain_26 ?_
    refine g_top ((nI_and (by omega) (by omega)).trans (congrArg nI (show h &&& (lowb (h &&& pl) ||| (lowb (h &&& pl) - 1)) = useN h pl from (if_neg c0).symm))) ?_
    refine g_istore hJ (lv2 := [(0, .ref G.1), (1, .int (nI h)), (2, .int (nI (h &&& pl))), (3, .int (nI (lowb (h &&& pl)))), (4, .int (nI (useN h pl)))]) d_X_buildChain_27 (by decide) rfl rfl ?_
    refine g_iconst hJ (v := -1) d_X_buildChain_29 (by decide) ?_
    refine g_istore hJ (lv2 := [(0, .ref G.1), (1, .int (nI h)), (2, .int (nI (h &&& pl))), (3, .int (nI (lowb (h &&& pl)))), (4, .int (nI (useN h pl))), (5, .int (-1))]) d_X_buildChain_30 (by decide) rfl rfl ?_
    refine g_gi hJ fl_X_25 rfl d_X_buildChain_32 d_X_buildChain_33 rfl ?_
    refine g_top (hn) ?_
    refine g_iconst hJ (v := nI 1) d_X_buildChain_36 (by decide) ?_
    refine g_isub hJ d_X_buildChain_37 ?_
    refine g_istore hJ (lv2 := [(0, .ref G.1), (1, .int (nI h)), (2, .int (nI (h &&& pl))), (3, .int (nI (lowb (h &&& pl)))), (4, .int (nI (useN h pl))), (5, .int (-1)), (6, .int ((nI n) - (nI 1)))]) d_X_buildChain_38 (by decide) rfl rfl ?_
    refine l_X_buildChain (post := fun r u => ChP n T h pl iv av r u) hJ hret hn12 hT (Nat.lt_of_le_of_lt useN_lt hh) (fun v u hv => hv) n T iv av (-1) (Nat.le_refl n) (Nat.le_refl _) (TF.rf h29) ?_
    rw [Nat.sub_self]
    rfl
  · refine g_iload_n hJ d_X_buildChain_16 rfl ?_
    refine g_goto hJ (tgt := 27) d_X_buildChain_17 (by decide) ?_
    refine g_top (congrArg nI (show h = useN h pl from (if_pos c0).symm)) ?_
    refine g_istore hJ (lv2 := [(0, .ref G.1), (1, .int (nI h)), (2, .int (nI (h &&& pl))), (3, .int (nI (lowb (h &&& pl)))), (4, .int (nI (useN h pl)))]) d_X_buildChain_27 (by decide) rfl rfl ?_
    refine g_iconst hJ (v := -1) d_X_buildChain_29 (by decide) ?_
    refine g_istore hJ (lv2 := [(0, .ref G.1), (1, .int (nI h)), (2, .int (nI (h &&& pl))), (3, .int (nI (lowb (h &&& pl)))), (4, .int (nI (useN h pl))), (5, .int (-1))]) d_X_buildChain_30 (by decide) rfl rfl ?_
    refine g_gi hJ fl_X_25 rfl d_X_buildChain_32 d_X_buildChain_33 rfl ?_
    refine g_top (hn) ?_
    refine g_iconst hJ (v := nI 1) d_X_buildChain_36 (by decide) ?_
    refine g_isub hJ d_X_buildChain_37 ?_
    refine g_istore hJ (lv2 := [(0, .ref G.1), (1, .int (nI h)), (2, .int (nI (h &&& pl))), (3, .int (nI (lowb (h &&& pl)))), (4, .int (nI (useN h pl))), (5, .int (-1)), (6, .int ((nI n) - (nI 1)))]) d_X_buildChain_38 (by decide) rfl rfl ?_
    refine l_X_buildChain (post := fun r u => ChP n T h pl iv av r u) hJ hret hn12 hT (Nat.lt_of_le_of_lt useN_lt hh) (fun v u hv => hv) n T iv av (-1) (Nat.le_refl n) (Nat.le_refl _) (TF.rf h29) ?_
    rw [Nat.sub_self]
    rfl
end
section
-- the class: conditions as intervals, stretches (by x3.py)
theorem nc_mk {a2 : Nat → Nat → Int32} {c w : Nat} {out : Bool} {lo hi v : Int32} (h8 : a2 8 c = b2 out) (h6 : a2 6 c = lo) (h7 : a2 7 c = hi) (h2 : a2 2 c = nI w) (hw : w < 16) (h4 : a2 4 c = v) (hh : w % 8 ≠ 0 → ∀ x : Int32, (decide (lo ≤ x) && decide (x ≤ hi)) = (cmpS (w % 8) x v != out)) : NC a2 c := by
  have hN : wN (vX a2) c = w := wN_of h2 hw
  exact ⟨out, h8, by rw [hN, h6, h7, h4]; exact hh⟩
theorem lo_toInt : (-2147483648 : Int32).toInt = -2147483648 := by decide
theorem hi_toInt : (2147483647 : Int32).toInt = 2147483647 := by decide
theorem bool_iff {a b : Bool} (h : a = true ↔ b = true) : a = b := by
  cases a <;> cases b <;> simp_all
theorem iv1 (x v : Int32) : (decide (v ≤ x) && decide (x ≤ v)) = (cmpS 1 x v != false) := by
  refine bool_iff ?_
  simp only [cmpS, Bool.and_eq_true, decide_eq_true_eq, bne_iff_ne]
  simp [Int32.le_iff_toInt_le, ← Int32.toInt_inj]
  omega
theorem iv2 (x v : Int32) : (decide (v ≤ x) && decide (x ≤ v)) = (cmpS 2 x v != true) := by
  refine bool_iff ?_
  simp only [cmpS, Bool.and_eq_true, decide_eq_true_eq, bne_iff_ne]
  simp [Int32.le_iff_toInt_le, ← Int32.toInt_inj]
  omega
theorem iv4 (x v : Int32) : (decide ((-2147483648 : Int32) ≤ x) && decide (x ≤ v)) = (cmpS 4 x v != false) := by
  have h1 := Int32.le_toInt x
  refine bool_iff ?_
  simp only [cmpS, Bool.and_eq_true, decide_eq_true_eq, bne_iff_ne]
  simp [Int32.le_iff_toInt_le, lo_toInt]
  omega
theorem iv6 (x v : Int32) : (decide (v ≤ x) && decide (x ≤ (2147483647 : Int32))) = (cmpS 6 x v != false) := by
  have h1 := Int32.toInt_lt x
  refine bool_iff ?_
  simp only [cmpS, Bool.and_eq_true, decide_eq_true_eq, bne_iff_ne]
  simp [Int32.le_iff_toInt_le, hi_toInt]
  omega
theorem one_toInt : (nI 1).toInt = 1 := by decide
theorem v_dec {v : Int32} (h : ¬ v = -2147483648) : (v - nI 1).toInt = v.toInt - 1 := by
  have h1 := Int32.le_toInt v
  have h2 := Int32.toInt_lt v
  have h3 : ¬ v.toInt = -2147483648 := fun z => h (Int32.toInt_inj.mp (by rw [z, lo_toInt]))
  rw [Int32.toInt_sub, one_toInt]
  exact Int.bmod_eq_of_le (by omega) (by omega)
theorem v_inc {v : Int32} (h : ¬ v = 2147483647) : (v + nI 1).toInt = v.toInt + 1 := by
  have h1 := Int32.le_toInt v
  have h2 := Int32.toInt_lt v
  have h3 : ¬ v.toInt = 2147483647 := fun z => h (Int32.toInt_inj.mp (by rw [z, hi_toInt]))
  rw [Int32.toInt_add, one_toInt]
  exact Int.bmod_eq_of_le (by omega) (by omega)
theorem iv3 (x v : Int32) (h : ¬ v = -2147483648) : (decide ((-2147483648 : Int32) ≤ x) && decide (x ≤ v - nI 1)) = (cmpS 3 x v != false) := by
  have h1 := Int32.le_toInt x
  refine bool_iff ?_
  simp only [cmpS, Bool.and_eq_true, decide_eq_true_eq, bne_iff_ne]
  simp [Int32.le_iff_toInt_le, Int32.lt_iff_toInt_lt, lo_toInt, v_dec h]
  omega
theorem iv3b (x : Int32) : (decide ((2147483647 : Int32) ≤ x) && decide (x ≤ (-2147483648 : Int32))) = (cmpS 3 x (-2147483648) != false) := by
  have h1 := Int32.le_toInt x
  refine bool_iff ?_
  simp only [cmpS, Bool.and_eq_true, decide_eq_true_eq, bne_iff_ne]
  simp [Int32.le_iff_toInt_le, Int32.lt_iff_toInt_lt, lo_toInt, hi_toInt]
  omega
theorem iv5 (x v : Int32) (h : ¬ v = 2147483647) : (decide (v + nI 1 ≤ x) && decide (x ≤ (2147483647 : Int32))) = (cmpS 5 x v != false) := by
  have h1 := Int32.toInt_lt x
  refine bool_iff ?_
  simp only [cmpS, Bool.and_eq_true, decide_eq_true_eq, bne_iff_ne]
  simp [Int32.le_iff_toInt_le, Int32.lt_iff_toInt_lt, hi_toInt, v_inc h]
  omega
theorem iv5b (x : Int32) : (decide ((2147483647 : Int32) ≤ x) && decide (x ≤ (-2147483648 : Int32))) = (cmpS 5 x 2147483647 != false) := by
  have h1 := Int32.toInt_lt x
  refine bool_iff ?_
  simp only [cmpS, Bool.and_eq_true, decide_eq_true_eq, bne_iff_ne]
  simp [Int32.le_iff_toInt_le, Int32.lt_iff_toInt_lt, lo_toInt, hi_toInt]
  omega
/-- the stretches of the first k numbers: S of them, B their beginnings and, at S, the end -/
def STk (V : Nat → Nat → Int32) (n k S : Nat) (B : Nat → Nat) : Prop := S ≤ k ∧ (0 < k → 1 ≤ S ∧ B 0 = 0) ∧ B S = k ∧ (∀ s, s < S → B s < B (s + 1)) ∧ (∀ s, s < S → ∀ j, B s ≤ j → j < B (s + 1) → hv V n j = hv V n (B s)) ∧ S = (if k = 0 then 0 else 1 + cnt (chg V n) (k - 1) 1)
theorem st_0 {V : Nat → Nat → Int32} {n : Nat} : STk V n 0 0 (fun _ => 0) := ⟨Nat.le_refl 0, fun h => absurd h (Nat.lt_irrefl 0), rfl, fun s h => absurd h (Nat.not_lt_zero s), fun s h => absurd h (Nat.not_lt_zero s), rfl⟩
theorem st_cnt {V : Nat → Nat → Int32} {n k : Nat} (hk : k ≠ 0) : cnt (chg V n) (k + 1 - 1) 1 = cnt (chg V n) (k - 1) 1 + (if chg V n k = true then 1 else 0) := by
  obtain ⟨m, rfl⟩ : ∃ m, k = m + 1 := ⟨k - 1, by omega⟩
  rw [Nat.add_sub_cancel, Nat.add_sub_cancel, cnt_r, Nat.add_comm 1 m]
theorem st_new {V : Nat → Nat → Int32} {n k S : Nat} {B : Nat → Nat} (h : STk V n k S B) (hc : k = 0 ∨ hv V n k ≠ hv V n (k - 1)) : STk V n (k + 1) (S + 1) (va_up B (S + 1) (k + 1)) := by
  obtain ⟨h1, h2, h3, h4, h5, h6⟩ := h
  refine ⟨by omega, fun _ => ⟨by omega, ?_⟩, va_up_self _ _ _, fun s hs => ?_, fun s hs j hj1 hj2 => ?_, ?_⟩
  · rw [va_up_ne B _ (by omega)]
    rcases Nat.eq_zero_or_pos k with hk | hk
    · rw [show S = 0 by omega] at h3
      rw [h3, hk]
    · exact (h2 hk).2
  · rw [va_up_ne B _ (show s ≠ S + 1 by omega)]
    by_cases es : s = S
    · subst es
      rw [va_up_self, h3]
      exact Nat.lt_succ_self k
    · rw [va_up_ne B _ (by omega)]
      exact h4 s (by omega)
  · rw [va_up_ne B _ (show s ≠ S + 1 by omega)] at hj1 ⊢
    by_cases es : s = S
    · subst es
      rw [va_up_self] at hj2
      rw [show j = B s by omega]
    · rw [va_up_ne B _ (by omega)] at hj2
      exact h5 s (by omega) j hj1 hj2
  · rw [if_neg (by omega)]
    rcases Nat.eq_zero_or_pos k with hk | hk
    · subst hk
      rw [if_pos rfl] at h6
      rw [h6]
      rfl
    · rw [if_neg (by omega)] at h6
      have hc2 : chg V n k = true := by rw [hv_chg, decide_eq_false (hc.resolve_left (by omega))]; rfl
      rw [st_cnt (by omega), if_pos hc2, h6]
      omega
theorem st_old {V : Nat → Nat → Int32} {n k S : Nat} {B : Nat → Nat} (h : STk V n k S B) (hk : 0 < k) (hc : hv V n k = hv V n (k - 1)) : STk V n (k + 1) S (va_up B S (k + 1)) := by
  obtain ⟨h1, h2, h3, h4, h5, h6⟩ := h
  obtain ⟨hS1, hB0⟩ := h2 hk
  refine ⟨by omega, fun _ => ⟨hS1, ?_⟩, va_up_self _ _ _, fun s hs => ?_, fun s hs j hj1 hj2 => ?_, ?_⟩
  · rw [va_up_ne B _ (by omega)]
    exact hB0
  · rw [va_up_ne B _ (show s ≠ S by omega)]
    have := h4 s hs
    by_cases es : s + 1 = S
    · rw [es] at this ⊢
      rw [va_up_self]
      omega
    · rw [va_up_ne B _ es]
      exact this
  · rw [va_up_ne B _ (show s ≠ S by omega)] at hj1 ⊢
    by_cases es : s + 1 = S
    · rw [es, va_up_self] at hj2
      have h5s := h5 s hs
      rw [es, h3] at h5s
      have hBs := h4 s hs
      rw [es, h3] at hBs
      by_cases ej : j = k
      · rw [ej, hc]
        exact h5s (k - 1) (by omega) (by omega)
      · exact h5s j hj1 (by omega)
    · rw [va_up_ne B _ es] at hj2
      exact h5 s hs j hj1 hj2
  · rw [if_neg (by omega)] at h6 ⊢
    have hc2 : chg V n k = false := by rw [hv_chg, decide_eq_true hc]; rfl
    rw [st_cnt (by omega), hc2, h6]
    simp
/-- what cutStretches leaves -/
def CuP (n : Nat) (iv : Nat → Int32) (av : Nat → Nat → Int32) (u : gS) : Prop := ∃ (S : Nat) (B : Nat → Nat), u.1 28 = nI S ∧ (∀ a, a ≠ 28 → u.1 a = iv a) ∧ (∀ a, a ≠ 9 → a ≠ 10 → u.2 a = av a) ∧ (∀ j, j < 32 → u.2 9 j = nI (hv (vX av) n j)) ∧ (∀ s, s < S + 1 → u.2 10 s = nI (B s)) ∧ STk (vX av) n 32 S B
theorem cut_end {av V : Nat → Nat → Int32} {n S : Nat} {B : Nat → Nat} (h10 : ∀ s, s < S → av 10 s = nI (B s)) (hS : STk V n 32 S B) : ∀ s, s < S + 1 → up2 av 10 S (nI 32) 10 s = nI (B s) := fun s hs => by
  rw [up2_at]
  by_cases es : s = S
  · rw [if_pos ⟨rfl, es⟩, es, hS.2.2.1]
  · rw [if_neg (fun z => es z.2)]
    exact h10 s (by omega)
set_option maxHeartbeats 4000000 in
set_option maxRecDepth 100000 in
theorem c_X_normalise (G : gG) (l : Launch) (iv : Nat → Int32) (av : Nat → Nat → Int32) (c w : Nat) (hc : c < 24) (hw : w < 16) (hw7 : w % 8 ≠ 7) (hwc : av 2 c = nI w) : gMv false G l y_X_normalise b_X_normalise 4 (gRm 0 0) [.int (nI c)] iv av (fun u => u.1 = iv ∧ (∀ a j, ¬ ((a = 6 ∨ a = 7 ∨ a = 8) ∧ j = c) → u.2 a j = av a j) ∧ NC u.2 c) := by
  refine g_metv rfl (Nat.le_of_ble_eq_true rfl) (fun J hJ hret => ?_)
  refine g_lv (lv2 := [(0, .ref G.1), (1, .int (nI c))]) rfl ?_
  generalize hv : av 4 c = v
  refine g_ga hJ fl_X_2 (n := 26) rfl d_X_normalise_0 d_X_normalise_1 rfl ?_
  refine g_iload_n hJ d_X_normalise_4 rfl ?_
  refine g_iald hJ (k := 2) (n := 26) rfl (by decide) (by omega) d_X_normalise_5 ?_
  refine g_top (hwc) ?_
  refine g_bipush hJ (v := nI 7) d_X_normalise_6 (by decide) ?_
  refine g_iand hJ d_X_normalise_8 ?_
  refine g_top (nI_and7 (by omega)) ?_
  refine g_istore_n hJ (lv2 := [(0, .ref G.1), (1, .int (nI c)), (2, .int (nI (w % 8)))]) d_X_normalise_9 (by decide) rfl rfl ?_
  refine g_ga hJ fl_X_4 (n := 26) rfl d_X_normalise_10 d_X_normalise_11 rfl ?_
  refine g_iload_n hJ d_X_normalise_14 rfl ?_
  refine g_iald hJ (k := 4) (n := 26) rfl (by decide) (by omega) d_X_normalise_15 ?_
  refine g_top (hv) ?_
  refine g_istore_n hJ (lv2 := [(0, .ref G.1), (1, .int (nI c)), (2, .int (nI (w % 8))), (3, .int v)]) d_X_normalise_16 (by decide) rfl rfl ?_
  refine g_ga hJ fl_X_6 (n := 24) rfl d_X_normalise_17 d_X_normalise_18 rfl ?_
  refine g_iload_n hJ d_X_normalise_21 rfl ?_
  refine g_ldc hJ kc_least d_X_normalise_22 ?_
  refine g_iast hJ (k := 6) (n := 24) rfl (by decide) (by omega) d_X_normalise_24 ?_
  refine g_ga hJ fl_X_7 (n := 24) rfl d_X_normalise_25 d_X_normalise_26 rfl ?_
  refine g_iload_n hJ d_X_normalise_29 rfl ?_
  refine g_ldc hJ kc_most d_X_normalise_30 ?_
  refine g_iast hJ (k := 7) (n := 24) rfl (by decide) (by omega) d_X_normalise_32 ?_
  refine g_ga hJ fl_X_8 (n := 24) rfl d_X_normalise_33 d_X_normalise_34 rfl ?_
  refine g_iload_n hJ d_X_normalise_37 rfl ?_
  refine g_iload_n hJ d_X_normalise_38 rfl ?_
  refine g_iconst hJ (v := nI 2) d_X_normalise_39 (by decide) ?_
  refine g_n_ne hJ (tgt := 47) d_X_normalise_40 (by decide) (by omega) (by decide) (fun q2 => ?_) (fun q2 => ?_)
  · refine g_iconst hJ (v := nI 0) d_X_normalise_47 (by decide) ?_
    refine g_zast hJ (k := 8) (n := 24) rfl rfl (by omega) rfl d_X_normalise_48 ?_
    refine g_iload_n hJ d_X_normalise_49 rfl ?_
    refine g_iconst hJ (v := nI 1) d_X_normalise_50 (by decide) ?_
    refine g_n_eq hJ (tgt := 59) d_X_normalise_51 (by decide) (by omega) (by decide) (fun q1 => ?_) (fun q1 => ?_)
    · refine g_ga hJ fl_X_6 (n := 24) rfl d_X_normalise_59 d_X_normalise_60 rfl ?_
      refine g_iload_n hJ d_X_normalise_63 rfl ?_
      refine g_iload_n hJ d_X_normalise_64 rfl ?_
      refine g_iast hJ (k := 6) (n := 24) rfl (by decide) (by omega) d_X_normalise_65 ?_
      refine g_ga hJ fl_X_7 (n := 24) rfl d_X_normalise_66 d_X_normalise_67 rfl ?_
      refine g_iload_n hJ d_X_normalise_70 rfl ?_
      refine g_iload_n hJ d_X_normalise_71 rfl ?_
      refine g_iast hJ (k := 7) (n := 24) rfl (by decide) (by omega) d_X_normalise_72 ?_
      refine g_goto hJ (tgt := 182) d_X_normalise_73 (by decide) ?_
      refine hret _ _ _ _ d_X_normalise_182 ⟨rfl, fun a j h => ?_, nc_mk (w := w) (out := false) (lo := v) (hi := v) (v := v) ?_ ?_ ?_ ?_ hw ?_ ?_⟩
      · dsimp only; simp only [up2_at]; repeat rw [if_neg (fun z => h ⟨by omega, z.2⟩)]
      · simp [up2_at, b2, nI]
      · simp [up2_at]
      · simp [up2_at]
      · simp [up2_at, hwc]
      · simp [up2_at, hv]
      · exact fun _ x => by rw [q1]; exact iv1 x v
    · refine g_iload_n hJ d_X_normalise_54 rfl ?_
      refine g_iconst hJ (v := nI 2) d_X_normalise_55 (by decide) ?_
      refine g_n_ne hJ (tgt := 76) d_X_normalise_56 (by decide) (by omega) (by decide) (fun _ => ?_) (fun q => absurd q (by omega))
      refine g_iload_n hJ d_X_normalise_76 rfl ?_
      refine g_iconst hJ (v := nI 4) d_X_normalise_77 (by decide) ?_
      refine g_n_ne hJ (tgt := 91) d_X_normalise_78 (by decide) (by omega) (by decide) (fun q4 => ?_) (fun q4 => ?_)
      · refine g_iload_n hJ d_X_normalise_91 rfl ?_
        refine g_bipush hJ (v := nI 6) d_X_normalise_92 (by decide) ?_
        refine g_n_ne hJ (tgt := 107) d_X_normalise_94 (by decide) (by omega) (by decide) (fun q6 => ?_) (fun q6 => ?_)
        · refine g_iload_n hJ d_X_normalise_107 rfl ?_
          refine g_iconst hJ (v := nI 3) d_X_normalise_108 (by decide) ?_
          refine g_n_ne hJ (tgt := 146) d_X_normalise_109 (by decide) (by omega) (by decide) (fun q3 => ?_) (fun q3 => ?_)
          · refine g_iload_n hJ d_X_normalise_146 rfl ?_
            refine g_iconst hJ (v := nI 5) d_X_normalise_147 (by decide) ?_
            refine g_n_ne hJ (tgt := 182) d_X_normalise_148 (by decide) (by omega) (by decide) (fun q5 => ?_) (fun q5 => ?_)
            · refine hret _ _ _ _ d_X_normalise_182 ⟨rfl, fun a j h => ?_, nc_mk (w := w) (out := false) (lo := (-2147483648)) (hi := 2147483647) (v := v) ?_ ?_ ?_ ?_ hw ?_ ?_⟩
              · dsimp only; simp only [up2_at]; repeat rw [if_neg (fun z => h ⟨by omega, z.2⟩)]
              · simp [up2_at, b2, nI]
              · simp [up2_at]
              · simp [up2_at]
              · simp [up2_at, hwc]
              · simp [up2_at, hv]
              · exact fun z => absurd (show w % 8 = 0 by omega) z
            · refine g_ga hJ fl_X_6 (n := 24) rfl d_X_normalise_151 d_X_normalise_152 rfl ?_
              refine g_iload_n hJ d_X_normalise_155 rfl ?_
              refine g_iload_n hJ d_X_normalise_156 rfl ?_
              refine g_iconst hJ (v := nI 1) d_X_normalise_157 (by decide) ?_
              refine g_iadd hJ d_X_normalise_158 ?_
              refine g_iast hJ (k := 6) (n := 24) rfl (by decide) (by omega) d_X_normalise_159 ?_
              refine g_iload_n hJ d_X_normalise_160 rfl ?_
              refine g_ldc hJ kc_most d_X_normalise_161 ?_
              refine g_icmp_ne hJ (tgt := 182) d_X_normalise_163 (by decide) (fun qv => ?_) (fun qv => ?_)
              · refine hret _ _ _ _ d_X_normalise_182 ⟨rfl, fun a j h => ?_, nc_mk (w := w) (out := false) (lo := v + nI 1) (hi := 2147483647) (v := v) ?_ ?_ ?_ ?_ hw ?_ ?_⟩
                · dsimp only; simp only [up2_at]; repeat rw [if_neg (fun z => h ⟨by omega, z.2⟩)]
                · simp [up2_at, b2, nI]
                · simp [up2_at]
                · simp [up2_at]
                · simp [up2_at, hwc]
                · simp [up2_at, hv]
                · exact fun _ x => by rw [q5]; exact iv5 x v qv
              · refine g_ga hJ fl_X_6 (n := 24) rfl d_X_normalise_166 d_X_normalise_167 rfl ?_
                refine g_iload_n hJ d_X_normalise_170 rfl ?_
                refine g_ldc hJ kc_most d_X_normalise_171 ?_
                refine g_iast hJ (k := 6) (n := 24) rfl (by decide) (by omega) d_X_normalise_173 ?_
                refine g_ga hJ fl_X_7 (n := 24) rfl d_X_normalise_174 d_X_normalise_175 rfl ?_
                refine g_iload_n hJ d_X_normalise_178 rfl ?_
                refine g_ldc hJ kc_least d_X_normalise_179 ?_
                refine g_iast hJ (k := 7) (n := 24) rfl (by decide) (by omega) d_X_normalise_181 ?_
                refine hret _ _ _ _ d_X_normalise_182 ⟨rfl, fun a j h => ?_, nc_mk (w := w) (out := false) (lo := 2147483647) (hi := (-2147483648)) (v := v) ?_ ?_ ?_ ?_ hw ?_ ?_⟩
                · dsimp only; simp only [up2_at]; repeat rw [if_neg (fun z => h ⟨by omega, z.2⟩)]
                · simp [up2_at, b2, nI]
                · simp [up2_at]
                · simp [up2_at]
                · simp [up2_at, hwc]
                · simp [up2_at, hv]
                · exact fun _ x => by rw [q5, qv]; exact iv5b x
          · refine g_ga hJ fl_X_7 (n := 24) rfl d_X_normalise_112 d_X_normalise_113 rfl ?_
            refine g_iload_n hJ d_X_normalise_116 rfl ?_
            refine g_iload_n hJ d_X_normalise_117 rfl ?_
            refine g_iconst hJ (v := nI 1) d_X_normalise_118 (by decide) ?_
            refine g_isub hJ d_X_normalise_119 ?_
            refine g_iast hJ (k := 7) (n := 24) rfl (by decide) (by omega) d_X_normalise_120 ?_
            refine g_iload_n hJ d_X_normalise_121 rfl ?_
            refine g_ldc hJ kc_least d_X_normalise_122 ?_
            refine g_icmp_ne hJ (tgt := 182) d_X_normalise_124 (by decide) (fun qv => ?_) (fun qv => ?_)
            · refine hret _ _ _ _ d_X_normalise_182 ⟨rfl, fun a j h => ?_, nc_mk (w := w) (out := false) (lo := (-2147483648)) (hi := v - nI 1) (v := v) ?_ ?_ ?_ ?_ hw ?_ ?_⟩
              · dsimp only; simp only [up2_at]; repeat rw [if_neg (fun z => h ⟨by omega, z.2⟩)]
              · simp [up2_at, b2, nI]
              · simp [up2_at]
              · simp [up2_at]
              · simp [up2_at, hwc]
              · simp [up2_at, hv]
              · exact fun _ x => by rw [q3]; exact iv3 x v qv
            · refine g_ga hJ fl_X_7 (n := 24) rfl d_X_normalise_127 d_X_normalise_128 rfl ?_
              refine g_iload_n hJ d_X_normalise_131 rfl ?_
              refine g_ldc hJ kc_least d_X_normalise_132 ?_
              refine g_iast hJ (k := 7) (n := 24) rfl (by decide) (by omega) d_X_normalise_134 ?_
              refine g_ga hJ fl_X_6 (n := 24) rfl d_X_normalise_135 d_X_normalise_136 rfl ?_
              refine g_iload_n hJ d_X_normalise_139 rfl ?_
              refine g_ldc hJ kc_most d_X_normalise_140 ?_
              refine g_iast hJ (k := 6) (n := 24) rfl (by decide) (by omega) d_X_normalise_142 ?_
              refine g_goto hJ (tgt := 182) d_X_normalise_143 (by decide) ?_
              refine hret _ _ _ _ d_X_normalise_182 ⟨rfl, fun a j h => ?_, nc_mk (w := w) (out := false) (lo := 2147483647) (hi := (-2147483648)) (v := v) ?_ ?_ ?_ ?_ hw ?_ ?_⟩
              · dsimp only; simp only [up2_at]; repeat rw [if_neg (fun z => h ⟨by omega, z.2⟩)]
              · simp [up2_at, b2, nI]
              · simp [up2_at]
              · simp [up2_at]
              · simp [up2_at, hwc]
              · simp [up2_at, hv]
              · exact fun _ x => by rw [q3, qv]; exact iv3b x
        · refine g_ga hJ fl_X_6 (n := 24) rfl d_X_normalise_97 d_X_normalise_98 rfl ?_
          refine g_iload_n hJ d_X_normalise_101 rfl ?_
          refine g_iload_n hJ d_X_normalise_102 rfl ?_
          refine g_iast hJ (k := 6) (n := 24) rfl (by decide) (by omega) d_X_normalise_103 ?_
          refine g_goto hJ (tgt := 182) d_X_normalise_104 (by decide) ?_
          refine hret _ _ _ _ d_X_normalise_182 ⟨rfl, fun a j h => ?_, nc_mk (w := w) (out := false) (lo := v) (hi := 2147483647) (v := v) ?_ ?_ ?_ ?_ hw ?_ ?_⟩
          · dsimp only; simp only [up2_at]; repeat rw [if_neg (fun z => h ⟨by omega, z.2⟩)]
          · simp [up2_at, b2, nI]
          · simp [up2_at]
          · simp [up2_at]
          · simp [up2_at, hwc]
          · simp [up2_at, hv]
          · exact fun _ x => by rw [q6]; exact iv6 x v
      · refine g_ga hJ fl_X_7 (n := 24) rfl d_X_normalise_81 d_X_normalise_82 rfl ?_
        refine g_iload_n hJ d_X_normalise_85 rfl ?_
        refine g_iload_n hJ d_X_normalise_86 rfl ?_
        refine g_iast hJ (k := 7) (n := 24) rfl (by decide) (by omega) d_X_normalise_87 ?_
        refine g_goto hJ (tgt := 182) d_X_normalise_88 (by decide) ?_
        refine hret _ _ _ _ d_X_normalise_182 ⟨rfl, fun a j h => ?_, nc_mk (w := w) (out := false) (lo := (-2147483648)) (hi := v) (v := v) ?_ ?_ ?_ ?_ hw ?_ ?_⟩
        · dsimp only; simp only [up2_at]; repeat rw [if_neg (fun z => h ⟨by omega, z.2⟩)]
        · simp [up2_at, b2, nI]
        · simp [up2_at]
        · simp [up2_at]
        · simp [up2_at, hwc]
        · simp [up2_at, hv]
        · exact fun _ x => by rw [q4]; exact iv4 x v
  · refine g_iconst hJ (v := nI 1) d_X_normalise_43 (by decide) ?_
    refine g_goto hJ (tgt := 48) d_X_normalise_44 (by decide) ?_
    refine g_zast hJ (k := 8) (n := 24) rfl rfl (by omega) rfl d_X_normalise_48 ?_
    refine g_iload_n hJ d_X_normalise_49 rfl ?_
    refine g_iconst hJ (v := nI 1) d_X_normalise_50 (by decide) ?_
    refine g_n_eq hJ (tgt := 59) d_X_normalise_51 (by decide) (by omega) (by decide) (fun q => absurd q (by omega)) (fun _ => ?_)
    refine g_iload_n hJ d_X_normalise_54 rfl ?_
    refine g_iconst hJ (v := nI 2) d_X_normalise_55 (by decide) ?_
    refine g_n_ne hJ (tgt := 76) d_X_normalise_56 (by decide) (by omega) (by decide) (fun q => absurd q (by omega)) (fun _ => ?_)
    refine g_ga hJ fl_X_6 (n := 24) rfl d_X_normalise_59 d_X_normalise_60 rfl ?_
    refine g_iload_n hJ d_X_normalise_63 rfl ?_
    refine g_iload_n hJ d_X_normalise_64 rfl ?_
    refine g_iast hJ (k := 6) (n := 24) rfl (by decide) (by omega) d_X_normalise_65 ?_
    refine g_ga hJ fl_X_7 (n := 24) rfl d_X_normalise_66 d_X_normalise_67 rfl ?_
    refine g_iload_n hJ d_X_normalise_70 rfl ?_
    refine g_iload_n hJ d_X_normalise_71 rfl ?_
    refine g_iast hJ (k := 7) (n := 24) rfl (by decide) (by omega) d_X_normalise_72 ?_
    refine g_goto hJ (tgt := 182) d_X_normalise_73 (by decide) ?_
    refine hret _ _ _ _ d_X_normalise_182 ⟨rfl, fun a j h => ?_, nc_mk (w := w) (out := true) (lo := v) (hi := v) (v := v) ?_ ?_ ?_ ?_ hw ?_ ?_⟩
    · dsimp only; simp only [up2_at]; repeat rw [if_neg (fun z => h ⟨by omega, z.2⟩)]
    · simp [up2_at, b2, nI]
    · simp [up2_at]
    · simp [up2_at]
    · simp [up2_at, hwc]
    · simp [up2_at, hv]
    · exact fun _ x => by rw [q2]; exact iv2 x v
set_option maxHeartbeats 4000000 in
set_option maxRecDepth 100000 in
theorem l_X_cut1 {G : gG} {l : Launch} {J : gJT} {post : gS → Prop} {iv : Nat → Int32} {ax : Nat → Nat → Int32} {n k : Nat} (hJ : gR false G l (gRm 0 0) b_X_cutStretches 3 J)  (hn : iv 25 = nI n) (hn12 : n ≤ 12) (hk : k < 32) :
    ∀ (d r : Nat) (av : Nat → Nat → Int32), r + d = n → (∀ a, a ≠ 9 → av a = ax a) → av 9 k = nI (bm (fun r => has (vX ax) r k) r) → (∀ av2 : Nat → Nat → Int32, (∀ a, a ≠ 9 → av2 a = ax a) → (∀ j, j ≠ k → av2 9 j = av 9 j) → av2 9 k = nI (hv (vX ax) n k) → J 67 [(0, .ref G.1), (1, .int (nI k)), (2, .int (nI n))] [] iv av2) → J 17 [(0, .ref G.1), (1, .int (nI k)), (2, .int (nI r))] [] iv av := by
  intro d
  induction d with
  | zero =>
    intro r av hr hfr h9 nx
    have er : r = n := by omega
    subst er
    refine g_iload_n hJ d_X_cutStretches_17 rfl ?_
    refine g_gi hJ fl_X_25 rfl d_X_cutStretches_18 d_X_cutStretches_19 rfl ?_
    refine g_top (hn) ?_
    refine g_n_ge hJ (tgt := 67) d_X_cutStretches_22 (by decide) (by omega) (by omega) (fun _ => ?_) (fun q => absurd q (by omega))
    exact nx av hfr (fun _ _ => rfl) h9
  | succ d ih =>
    intro r av hr hfr h9 nx
    have h0 := hfr 0 (by decide)
    have h1 := hfr 1 (by decide)
    have hlt : bm (fun r => has (vX ax) r k) r < 4096 := bm_12 _ (by omega)
    have h2r : 2 ^ r ≤ 2 ^ 11 := Nat.pow_le_pow_right (by decide) (by omega)
    refine g_iload_n hJ d_X_cutStretches_17 rfl ?_
    refine g_gi hJ fl_X_25 rfl d_X_cutStretches_18 d_X_cutStretches_19 rfl ?_
    refine g_top (hn) ?_
    refine g_n_ge hJ (tgt := 67) d_X_cutStretches_22 (by decide) (by omega) (by omega) (fun q => absurd q (by omega)) (fun _ => ?_)
    refine g_ga hJ fl_X_0 (n := 13) rfl d_X_cutStretches_25 d_X_cutStretches_26 rfl ?_
    refine g_iload_n hJ d_X_cutStretches_29 rfl ?_
    refine g_iald hJ (k := 0) (n := 13) rfl (by decide) (by omega) d_X_cutStretches_30 ?_
    refine g_iload_n hJ d_X_cutStretches_31 rfl ?_
    refine g_icmp_gt hJ (tgt := 61) d_X_cutStretches_32 (by decide) (fun c1 => ?_) (fun c1 => ?_)
    · have hf : has (vX ax) r k = false := has_no1 (by rw [h0] at c1; exact c1)
      have e : bm (fun r => has (vX ax) r k) (r + 1) = bm (fun r => has (vX ax) r k) r := if_neg (by show ¬ has (vX ax) r k = true; rw [hf]; decide)
      refine g_inc hJ (lv2 := [(0, .ref G.1), (1, .int (nI k)), (2, .int (nI (r + 1)))]) d_X_cutStretches_61 rfl (by decide) rfl rfl ?_
      refine g_goto hJ (tgt := 17) d_X_cutStretches_64 (by decide) ?_
      exact ih (r + 1) av (by omega) hfr (by rw [e]; exact h9) nx
    · refine g_iload_n hJ d_X_cutStretches_35 rfl ?_
      refine g_ga hJ fl_X_1 (n := 13) rfl d_X_cutStretches_36 d_X_cutStretches_37 rfl ?_
      refine g_iload_n hJ d_X_cutStretches_40 rfl ?_
      refine g_iald hJ (k := 1) (n := 13) rfl (by decide) (by omega) d_X_cutStretches_41 ?_
      refine g_icmp_gt hJ (tgt := 61) d_X_cutStretches_42 (by decide) (fun c2 => ?_) (fun c2 => ?_)
      · have hf : has (vX ax) r k = false := has_no2 (by rw [h1] at c2; exact c2)
        have e : bm (fun r => has (vX ax) r k) (r + 1) = bm (fun r => has (vX ax) r k) r := if_neg (by show ¬ has (vX ax) r k = true; rw [hf]; decide)
        refine g_inc hJ (lv2 := [(0, .ref G.1), (1, .int (nI k)), (2, .int (nI (r + 1)))]) d_X_cutStretches_61 rfl (by decide) rfl rfl ?_
        refine g_goto hJ (tgt := 17) d_X_cutStretches_64 (by decide) ?_
        exact ih (r + 1) av (by omega) hfr (by rw [e]; exact h9) nx
      · have hf : has (vX ax) r k = true := has_yes (by rw [h0] at c1; exact c1) (by rw [h1] at c2; exact c2)
        have e : bm (fun r => has (vX ax) r k) (r + 1) = bm (fun r => has (vX ax) r k) r ||| 2 ^ r := if_pos hf
        refine g_ga hJ fl_X_9 (n := 32) rfl d_X_cutStretches_45 d_X_cutStretches_46 rfl ?_
        refine g_iload_n hJ d_X_cutStretches_49 rfl ?_
        refine g_ga hJ fl_X_9 (n := 32) rfl d_X_cutStretches_50 d_X_cutStretches_51 rfl ?_
        refine g_iload_n hJ d_X_cutStretches_54 rfl ?_
        refine g_iald hJ (k := 9) (n := 32) rfl (by decide) (by omega) d_X_cutStretches_55 ?_
        refine g_top (h9) ?_
        refine g_iconst hJ (v := nI 1) d_X_cutStretches_56 (by decide) ?_
        refine g_iload_n hJ d_X_cutStretches_57 rfl ?_
        refine g_ishl hJ d_X_cutStretches_58 ?_
        refine g_top (nI_shl1 (by omega)) ?_
        refine g_ior hJ d_X_cutStretches_59 ?_
        refine g_top (nI_or (by omega) (by omega)) ?_
        refine g_iast hJ (k := 9) (n := 32) rfl (by decide) (by omega) d_X_cutStretches_60 ?_
        refine g_inc hJ (lv2 := [(0, .ref G.1), (1, .int (nI k)), (2, .int (nI (r + 1)))]) d_X_cutStretches_61 rfl (by decide) rfl rfl ?_
        refine g_goto hJ (tgt := 17) d_X_cutStretches_64 (by decide) ?_
        refine ih (r + 1) _ (by omega) (fun a ha => by rw [up2_k ha]; exact hfr a ha) (by rw [up2_self, e]) (fun av2 g1 g2 g3 => nx av2 g1 (fun j hj => by rw [g2 j hj, up2_j hj]) g3)
set_option maxHeartbeats 4000000 in
set_option maxRecDepth 100000 in
theorem l_X_cut2 {G : gG} {l : Launch} {J : gJT} {post : gS → Prop} {iv : Nat → Int32} {ax : Nat → Nat → Int32} {n : Nat} (hJ : gR false G l (gRm 0 0) b_X_cutStretches 3 J)  (hn : iv 25 = nI n) (hn12 : n ≤ 12) :
    ∀ (d k : Nat) (av : Nat → Nat → Int32) (ex : List (Nat × Value)), ex = [] ∨ (∃ v : Int32, ex = [(2, .int v)]) → k + d = 32 → (∀ a, a ≠ 9 → av a = ax a) → (∀ j, j < k → av 9 j = nI (hv (vX ax) n j)) → (∀ (v : Int32) (av2 : Nat → Nat → Int32), (∀ a, a ≠ 9 → av2 a = ax a) → (∀ j, j < 32 → av2 9 j = nI (hv (vX ax) n j)) → J 73 [(0, .ref G.1), (1, .int v)] [] iv av2) → J 2 ([(0, .ref G.1), (1, .int (nI k))] ++ ex) [] iv av := by
  intro d
  induction d with
  | zero =>
    intro k av ex hex hk hfr h9 nx
    refine g_drop hJ (lv2 := [(0, .ref G.1), (1, .int (nI k))]) (ex := ex) rfl ?_
    refine g_iload_n hJ d_X_cutStretches_2 rfl ?_
    refine g_bipush hJ (v := nI 32) d_X_cutStretches_3 (by decide) ?_
    refine g_n_ge hJ (tgt := 73) d_X_cutStretches_5 (by decide) (by omega) (by omega) (fun _ => ?_) (fun q => absurd q (by omega))
    exact nx _ av hfr (fun j hj => h9 j (by omega))
  | succ d ih =>
    intro k av ex hex hk hfr h9 nx
    refine g_drop hJ (lv2 := [(0, .ref G.1), (1, .int (nI k))]) (ex := ex) rfl ?_
    refine g_iload_n hJ d_X_cutStretches_2 rfl ?_
    refine g_bipush hJ (v := nI 32) d_X_cutStretches_3 (by decide) ?_
    refine g_n_ge hJ (tgt := 73) d_X_cutStretches_5 (by decide) (by omega) (by omega) (fun q => absurd q (by omega)) (fun _ => ?_)
    refine g_ga hJ fl_X_9 (n := 32) rfl d_X_cutStretches_8 d_X_cutStretches_9 rfl ?_
    refine g_iload_n hJ d_X_cutStretches_12 rfl ?_
    refine g_iconst hJ (v := nI 0) d_X_cutStretches_13 (by decide) ?_
    refine g_iast hJ (k := 9) (n := 32) rfl (by decide) (by omega) d_X_cutStretches_14 ?_
    refine g_iconst hJ (v := nI 0) d_X_cutStretches_15 (by decide) ?_
    refine g_istore_n hJ (lv2 := [(0, .ref G.1), (1, .int (nI k)), (2, .int (nI 0))]) d_X_cutStretches_16 (by decide) rfl rfl ?_
    refine l_X_cut1 (post := fun _ => True) (ax := ax) hJ hn hn12 (by omega) n 0 _ (by omega) (fun a ha => by rw [up2_k ha]; exact hfr a ha) (by rw [up2_self]; rfl) (fun av2 g1 g2 g3 => ?_)
    refine g_inc hJ (lv2 := [(0, .ref G.1), (1, .int (nI (k + 1))), (2, .int (nI n))]) d_X_cutStretches_67 rfl (by decide) rfl rfl ?_
    refine g_goto hJ (tgt := 2) d_X_cutStretches_70 (by decide) ?_
    refine ih (k + 1) av2 [(2, .int (nI n))] (Or.inr ⟨_, rfl⟩) (by omega) g1 (lt_s (fun j hj => ?_) g3) nx
    rw [g2 j (by omega), up2_j (by omega)]
    exact h9 j hj
set_option maxHeartbeats 4000000 in
set_option maxRecDepth 100000 in
theorem l_X_cut3 {G : gG} {l : Launch} {J : gJT} {post : gS → Prop} {iv0 : Nat → Int32} {av0 : Nat → Nat → Int32} {n : Nat} (hJ : gR false G l (gRm 0 0) b_X_cutStretches 3 J)  (hn12 : n ≤ 12) (h9 : ∀ j, j < 32 → av0 9 j = nI (hv (vX av0) n j)) :
    ∀ (d k S : Nat) (B : Nat → Nat) (iv : Nat → Int32) (av : Nat → Nat → Int32), k + d = 32 → iv 28 = nI S ∧ (∀ a, a ≠ 28 → iv a = iv0 a) ∧ (∀ a, a ≠ 10 → av a = av0 a) ∧ (∀ s, s < S → av 10 s = nI (B s)) ∧ STk (vX av0) n k S B → (∀ (v : Int32) (S : Nat) (B : Nat → Nat) (iv : Nat → Int32) (av : Nat → Nat → Int32), iv 28 = nI S ∧ (∀ a, a ≠ 28 → iv a = iv0 a) ∧ (∀ a, a ≠ 10 → av a = av0 a) ∧ (∀ s, s < S → av 10 s = nI (B s)) ∧ STk (vX av0) n 32 S B → J 133 [(0, .ref G.1), (1, .int v)] [] iv av) → J 80 [(0, .ref G.1), (1, .int (nI k))] [] iv av := by
  intro d
  induction d with
  | zero =>
    intro k S B iv av hk hI nx
    have ek : k = 32 := by omega
    subst ek
    refine g_iload_n hJ d_X_cutStretches_80 rfl ?_
    refine g_bipush hJ (v := nI 32) d_X_cutStretches_81 (by decide) ?_
    refine g_n_ge hJ (tgt := 133) d_X_cutStretches_83 (by decide) (by omega) (by omega) (fun _ => ?_) (fun q => absurd q (by omega))
    exact nx _ S B iv av hI
  | succ d ih =>
    intro k S B iv av hk hI nx
    obtain ⟨h28, hiv, hav, h10, hS⟩ := hI
    have hSk := hS.1
    have e9 := hav 9 (by decide)
    have hk9 : av 9 k = nI (hv (vX av0) n k) := by rw [e9]; exact h9 k (by omega)
    have hvl : ∀ j, hv (vX av0) n j < 4096 := fun j => bm_12 _ hn12
    have hvk := hvl k
    have hvk1 := hvl (k - 1)
    refine g_iload_n hJ d_X_cutStretches_80 rfl ?_
    refine g_bipush hJ (v := nI 32) d_X_cutStretches_81 (by decide) ?_
    refine g_n_ge hJ (tgt := 133) d_X_cutStretches_83 (by decide) (by omega) (by omega) (fun q => absurd q (by omega)) (fun _ => ?_)
    refine g_iload_n hJ d_X_cutStretches_86 rfl ?_
    refine g_ez hJ (tgt := 107) d_X_cutStretches_87 (by decide) (by omega) (fun c0 => ?_) (fun c0 => ?_)
    · refine g_ga hJ fl_X_10 (n := 33) rfl d_X_cutStretches_107 d_X_cutStretches_108 rfl ?_
      refine g_gi hJ fl_X_28 rfl d_X_cutStretches_111 d_X_cutStretches_112 rfl ?_
      refine g_top (h28) ?_
      refine g_iload_n hJ d_X_cutStretches_115 rfl ?_
      refine g_iast hJ (k := 10) (n := 33) rfl (by decide) (by omega) d_X_cutStretches_116 ?_
      refine g_aload_n hJ d_X_cutStretches_117 rfl ?_
      refine g_dup hJ d_X_cutStretches_118 rfl ?_
      refine g_geti hJ fl_X_28 rfl d_X_cutStretches_119 ?_
      refine g_top (h28) ?_
      refine g_iconst hJ (v := nI 1) d_X_cutStretches_122 (by decide) ?_
      refine g_iaddn hJ d_X_cutStretches_123 ?_
      refine g_put hJ fl_X_28 rfl (pt_X_28 _) d_X_cutStretches_124 ?_
      refine g_inc hJ (lv2 := [(0, .ref G.1), (1, .int (nI (k + 1)))]) d_X_cutStretches_127 rfl (by decide) rfl rfl ?_
      refine g_goto hJ (tgt := 80) d_X_cutStretches_130 (by decide) ?_
      refine ih (k + 1) (S + 1) (va_up B (S + 1) (k + 1)) _ _ (by omega) ⟨rfl, fun a ha => by rw [pk_un ha]; exact hiv a ha, fun a ha => by rw [up2_k ha]; exact hav a ha, fun s hs => ?_, st_new hS (Or.inl c0)⟩ nx
      rw [up2_at]
      by_cases es : s = S
      · rw [if_pos ⟨rfl, es⟩, es, va_up_ne B _ (by omega), hS.2.2.1]
      · rw [if_neg (fun z => es z.2), va_up_ne B _ (by omega)]; exact h10 s (by omega)
    · have hk91 : av 9 (k - 1) = nI (hv (vX av0) n (k - 1)) := by rw [e9]; exact h9 (k - 1) (by omega)
      refine g_ga hJ fl_X_9 (n := 32) rfl d_X_cutStretches_90 d_X_cutStretches_91 rfl ?_
      refine g_iload_n hJ d_X_cutStretches_94 rfl ?_
      refine g_iald hJ (k := 9) (n := 32) rfl (by decide) (by omega) d_X_cutStretches_95 ?_
      refine g_top (hk9) ?_
      refine g_ga hJ fl_X_9 (n := 32) rfl d_X_cutStretches_96 d_X_cutStretches_97 rfl ?_
      refine g_iload_n hJ d_X_cutStretches_100 rfl ?_
      refine g_iconst hJ (v := nI 1) d_X_cutStretches_101 (by decide) ?_
      refine g_isubn hJ d_X_cutStretches_102 (by omega) ?_
      refine g_iald hJ (k := 9) (n := 32) rfl (by decide) (by omega) d_X_cutStretches_103 ?_
      refine g_top (hk91) ?_
      refine g_n_eq hJ (tgt := 127) d_X_cutStretches_104 (by decide) (by omega) (by omega) (fun c1 => ?_) (fun c1 => ?_)
      · refine g_inc hJ (lv2 := [(0, .ref G.1), (1, .int (nI (k + 1)))]) d_X_cutStretches_127 rfl (by decide) rfl rfl ?_
        refine g_goto hJ (tgt := 80) d_X_cutStretches_130 (by decide) ?_
        exact ih (k + 1) S (va_up B S (k + 1)) iv av (by omega) ⟨h28, hiv, hav, fun s hs => by rw [va_up_ne B _ (by omega)]; exact h10 s hs, st_old hS (by omega) c1⟩ nx
      · refine g_ga hJ fl_X_10 (n := 33) rfl d_X_cutStretches_107 d_X_cutStretches_108 rfl ?_
        refine g_gi hJ fl_X_28 rfl d_X_cutStretches_111 d_X_cutStretches_112 rfl ?_
        refine g_top (h28) ?_
        refine g_iload_n hJ d_X_cutStretches_115 rfl ?_
        refine g_iast hJ (k := 10) (n := 33) rfl (by decide) (by omega) d_X_cutStretches_116 ?_
        refine g_aload_n hJ d_X_cutStretches_117 rfl ?_
        refine g_dup hJ d_X_cutStretches_118 rfl ?_
        refine g_geti hJ fl_X_28 rfl d_X_cutStretches_119 ?_
        refine g_top (h28) ?_
        refine g_iconst hJ (v := nI 1) d_X_cutStretches_122 (by decide) ?_
        refine g_iaddn hJ d_X_cutStretches_123 ?_
        refine g_put hJ fl_X_28 rfl (pt_X_28 _) d_X_cutStretches_124 ?_
        refine g_inc hJ (lv2 := [(0, .ref G.1), (1, .int (nI (k + 1)))]) d_X_cutStretches_127 rfl (by decide) rfl rfl ?_
        refine g_goto hJ (tgt := 80) d_X_cutStretches_130 (by decide) ?_
        refine ih (k + 1) (S + 1) (va_up B (S + 1) (k + 1)) _ _ (by omega) ⟨rfl, fun a ha => by rw [pk_un ha]; exact hiv a ha, fun a ha => by rw [up2_k ha]; exact hav a ha, fun s hs => ?_, st_new hS (Or.inr c1)⟩ nx
        rw [up2_at]
        by_cases es : s = S
        · rw [if_pos ⟨rfl, es⟩, es, va_up_ne B _ (by omega), hS.2.2.1]
        · rw [if_neg (fun z => es z.2), va_up_ne B _ (by omega)]; exact h10 s (by omega)
set_option maxHeartbeats 4000000 in
set_option maxRecDepth 100000 in
theorem c_X_cutStretches (G : gG) (l : Launch) (iv : Nat → Int32) (av : Nat → Nat → Int32) (n : Nat) (hn12 : n ≤ 12) (hn : iv 25 = nI n) : gMv false G l y_X_cutStretches b_X_cutStretches 3 (gRm 0 0) [] iv av (fun u => CuP n iv av u) := by
  refine g_metv rfl (Nat.le_of_ble_eq_true rfl) (fun J hJ hret => ?_)
  refine g_lv (lv2 := [(0, .ref G.1)]) rfl ?_
  refine g_iconst hJ (v := nI 0) d_X_cutStretches_0 (by decide) ?_
  refine g_istore_n hJ (lv2 := [(0, .ref G.1), (1, .int (nI 0))]) d_X_cutStretches_1 (by decide) rfl rfl ?_
  refine l_X_cut2 (post := fun _ => True) (ax := av) hJ hn hn12 32 0 av [] (Or.inl rfl) (by omega) (fun _ _ => rfl) (fun j hj => absurd hj (Nat.not_lt_zero j)) (fun v av1 g1 g2 => ?_)
  have eV : vX av1 = vX av := vX_cg (fun k hk => g1 k (by omega))
  refine g_aload_n hJ d_X_cutStretches_73 rfl ?_
  refine g_iconst hJ (v := nI 0) d_X_cutStretches_74 (by decide) ?_
  refine g_put hJ fl_X_28 rfl (pt_X_28 _) d_X_cutStretches_75 ?_
  refine g_iconst hJ (v := nI 0) d_X_cutStretches_78 (by decide) ?_
  refine g_istore_n hJ (lv2 := [(0, .ref G.1), (1, .int (nI 0))]) d_X_cutStretches_79 (by decide) rfl rfl ?_
  refine l_X_cut3 (post := fun _ => True) (iv0 := iv) (av0 := av1) (n := n) hJ hn12 (fun j hj => by rw [eV]; exact g2 j hj) 32 0 0 (fun _ => 0) _ _ (by omega) ⟨rfl, fun a ha => pk_un ha, fun _ _ => rfl, fun s hs => absurd hs (Nat.not_lt_zero s), st_0⟩ (fun v2 S B iv2 av2 hI => ?_)
  obtain ⟨h28, hiv, hav, h10, hS⟩ := hI
  have hSk := hS.1
  refine g_ga hJ fl_X_10 (n := 33) rfl d_X_cutStretches_133 d_X_cutStretches_134 rfl ?_
  refine g_gi hJ fl_X_28 rfl d_X_cutStretches_137 d_X_cutStretches_138 rfl ?_
  refine g_top (h28) ?_
  refine g_bipush hJ (v := nI 32) d_X_cutStretches_141 (by decide) ?_
  refine g_iast hJ (k := 10) (n := 33) rfl (by decide) (by omega) d_X_cutStretches_143 ?_
  rw [eV] at hS
  exact hret _ _ _ _ d_X_cutStretches_144 (⟨S, B, h28, hiv, fun a h1 h2 => by (try dsimp only); rw [up2_k h2, hav a h2]; exact g1 a h1, fun j hj => by (try dsimp only); rw [up2_k (by decide), hav 9 (by decide)]; exact g2 j hj, fun s hs => cut_end h10 hS s hs, hS⟩)
end
section
-- the class: the tree over the stretches (by x4.py)
/-- a tree at node for the stretches lo .. hi - 1 -/
def Tr (ax : Nat → Nat → Int32) (B : Nat → Nat) : Nat → Nat → Nat → Nat → Prop
  | 0, node, lo, hi => ax 14 node = -1 ∧ ax 15 node = nI lo ∧ hi = lo + 1
  | d + 1, node, lo, hi => (ax 14 node = -1 ∧ ax 15 node = nI lo ∧ hi = lo + 1) ∨ ∃ mid l r, lo < mid ∧ mid < hi ∧ l < 64 ∧ r < 64 ∧ ax 14 node = nI (B mid) ∧ ax 15 node = nI l ∧ ax 16 node = nI r ∧ Tr ax B d l lo mid ∧ Tr ax B d r mid hi
def sm (f : Nat → Nat) : Nat → Nat → Nat
  | 0, _ => 0
  | d + 1, i => f i + sm f d (i + 1)
theorem sm_cg {f g : Nat → Nat} : ∀ (d i : Nat), (∀ j, i ≤ j → j < i + d → f j = g j) → sm f d i = sm g d i
  | 0, _, _ => rfl
  | d + 1, i, h => by
    show f i + sm f d (i + 1) = g i + sm g d (i + 1)
    rw [h i (Nat.le_refl i) (by omega), sm_cg d (i + 1) (fun j h1 h2 => h j (by omega) (by omega))]
theorem sm_r (f : Nat → Nat) : ∀ (d i : Nat), sm f (d + 1) i = sm f d i + f (i + d)
  | 0, i => by
    show f i + 0 = 0 + f (i + 0)
    rw [Nat.add_zero, Nat.zero_add, Nat.add_zero]
  | d + 1, i => by
    have := sm_r f d (i + 1)
    show f i + sm f (d + 1) (i + 1) = (f i + sm f d (i + 1)) + f (i + (d + 1))
    rw [this, show i + 1 + d = i + (d + 1) by omega]
    omega
/-- a node that has been worked off -/
def PN (av : Nat → Nat → Int32) (B lo hi : Nat → Nat) (m j : Nat) : Prop := (av 14 j = -1 ∧ av 15 j = nI (lo j) ∧ hi j = lo j + 1) ∨ ∃ l, l + 1 < m ∧ lo j < (lo j + hi j) / 2 ∧ (lo j + hi j) / 2 < hi j ∧ av 14 j = nI (B ((lo j + hi j) / 2)) ∧ av 15 j = nI l ∧ av 16 j = nI (l + 1) ∧ lo l = lo j ∧ hi l = (lo j + hi j) / 2 ∧ lo (l + 1) = (lo j + hi j) / 2 ∧ hi (l + 1) = hi j
def BTI (S : Nat) (B : Nat → Nat) (av0 : Nat → Nat → Int32) (i m : Nat) (lo hi : Nat → Nat) (av : Nat → Nat → Int32) : Prop := i ≤ m ∧ 1 ≤ m ∧ m ≤ 63 ∧ lo 0 = 0 ∧ hi 0 = S ∧ (∀ a, a < 14 ∨ 18 < a → av a = av0 a) ∧ (∀ j, j < m → av 17 j = nI (lo j) ∧ av 18 j = nI (hi j) ∧ lo j < hi j ∧ hi j ≤ S) ∧ (∀ j, j < i → PN av B lo hi m j) ∧ m + sm (fun j => 2 * (hi j - lo j) - 2) (m - i) i = 2 * S - 1
theorem bt_tr0 {S : Nat} {B : Nat → Nat} {av0 : Nat → Nat → Int32} {i m : Nat} {lo hi : Nat → Nat} {av : Nat → Nat → Int32} (h : BTI S B av0 i m lo hi av) (him : m ≤ i) : ∀ (d j : Nat), j < m → hi j - lo j ≤ 2 ^ d → Tr av B d j (lo j) (hi j)
  | 0, j, hj, hd => by
    have hd : hi j - lo j ≤ 1 := hd
    rcases h.2.2.2.2.2.2.2.1 j (by omega) with h1 | ⟨l, -, h2, h3, -⟩
    · exact h1
    · omega
  | d + 1, j, hj, hd => by
    have hd : hi j - lo j ≤ 2 ^ (d + 1) := hd
    rw [Nat.pow_succ] at hd
    have hm63 := h.2.2.1
    rcases h.2.2.2.2.2.2.2.1 j (by omega) with h1 | ⟨l, h1, h2, h3, h4, h5, h6, h7, h8, h9, h10⟩
    · exact Or.inl h1
    · refine Or.inr ⟨_, l, l + 1, h2, h3, by omega, by omega, h4, h5, h6, ?_, ?_⟩
      · have := bt_tr0 h him d l (by omega) (by rw [h7, h8]; omega)
        rw [h7, h8] at this
        exact this
      · have := bt_tr0 h him d (l + 1) h1 (by rw [h9, h10]; omega)
        rw [h9, h10] at this
        exact this
theorem bt_tr {S : Nat} {B : Nat → Nat} {av0 : Nat → Nat → Int32} {i m : Nat} {lo hi : Nat → Nat} {av : Nat → Nat → Int32} (h : BTI S B av0 i m lo hi av) (him : m ≤ i) (hS : S ≤ 32) : Tr av B 5 0 0 S := by
  have h1 := bt_tr0 h him 5 0 h.2.1 (by rw [h.2.2.2.1, h.2.2.2.2.1]; exact hS)
  rw [h.2.2.2.1, h.2.2.2.2.1] at h1
  exact h1
theorem bt_room {S : Nat} {B : Nat → Nat} {av0 : Nat → Nat → Int32} {i m : Nat} {lo hi : Nat → Nat} {av : Nat → Nat → Int32} (h : BTI S B av0 i m lo hi av) (him : i < m) (hz : lo i + 2 ≤ hi i) (hS : S ≤ 32) : m ≤ 61 := by
  have h1 := h.2.2.2.2.2.2.2.2
  rw [show m - i = (m - i - 1) + 1 by omega] at h1
  have h2 : m + ((2 * (hi i - lo i) - 2) + sm (fun j => 2 * (hi j - lo j) - 2) (m - i - 1) (i + 1)) = 2 * S - 1 := h1
  omega
theorem bt_leaf {S : Nat} {B : Nat → Nat} {av0 : Nat → Nat → Int32} {i m : Nat} {lo hi : Nat → Nat} {av av2 : Nat → Nat → Int32} (h : BTI S B av0 i m lo hi av) (him : i < m) (hz : hi i < lo i + 2) (h14 : ∀ j, av2 14 j = if j = i then -1 else av 14 j) (h15 : ∀ j, av2 15 j = if j = i then nI (lo i) else av 15 j) (ho : ∀ k, True → k ≠ 14 → k ≠ 15 → av2 k = av k) : BTI S B av0 (i + 1) m lo hi av2 := by
  obtain ⟨g1, g2, g3, g4, g5, g6, g7, g8, g9⟩ := h
  have hlh := (g7 i him).2.2.1
  refine ⟨by omega, g2, g3, g4, g5, fun a ha => ?_, fun j hj => ?_, fun j hj => ?_, ?_⟩
  · rw [ho a trivial (by omega) (by omega)]
    exact g6 a ha
  · rw [ho 17 trivial (by decide) (by decide), ho 18 trivial (by decide) (by decide)]
    exact g7 j hj
  · by_cases ej : j = i
    · subst ej
      refine Or.inl ⟨?_, ?_, by omega⟩
      · rw [h14, if_pos rfl]
      · rw [h15, if_pos rfl]
    · have := g8 j (by omega)
      unfold PN at this ⊢
      rw [h14, h15, if_neg ej, if_neg ej, ho 16 trivial (by decide) (by decide)]
      exact this
  · rw [show m - i = (m - (i + 1)) + 1 by omega] at g9
    have g9 : m + ((2 * (hi i - lo i) - 2) + sm (fun j => 2 * (hi j - lo j) - 2) (m - (i + 1)) (i + 1)) = 2 * S - 1 := g9
    omega
theorem bt_split {S : Nat} {B : Nat → Nat} {av0 : Nat → Nat → Int32} {i m : Nat} {lo hi : Nat → Nat} {av av2 : Nat → Nat → Int32} (h : BTI S B av0 i m lo hi av) (him : i < m) (hz : lo i + 2 ≤ hi i) (hS : S ≤ 32) (h14 : ∀ j, av2 14 j = if j = i then nI (B ((lo i + hi i) / 2)) else av 14 j) (h15 : ∀ j, av2 15 j = if j = i then nI m else av 15 j) (h16 : ∀ j, av2 16 j = if j = i then nI (m + 1) else av 16 j)
    (h17 : ∀ j, av2 17 j = if j = m + 1 then nI ((lo i + hi i) / 2) else if j = m then nI (lo i) else av 17 j) (h18 : ∀ j, av2 18 j = if j = m + 1 then nI (hi i) else if j = m then nI ((lo i + hi i) / 2) else av 18 j) (ho : ∀ k, k < 14 ∨ 18 < k → av2 k = av k) :
    BTI S B av0 (i + 1) (m + 2) (va_up (va_up lo m (lo i)) (m + 1) ((lo i + hi i) / 2)) (va_up (va_up hi m ((lo i + hi i) / 2)) (m + 1) (hi i)) av2 := by
  have hm61 := bt_room h him hz hS
  obtain ⟨g1, g2, g3, g4, g5, g6, g7, g8, g9⟩ := h
  have hhS := (g7 i him).2.2.2
  have lo_o : ∀ j, j < m → va_up (va_up lo m (lo i)) (m + 1) ((lo i + hi i) / 2) j = lo j := fun j hj => by rw [va_up_ne _ _ (by omega), va_up_ne _ _ (by omega)]
  have hi_o : ∀ j, j < m → va_up (va_up hi m ((lo i + hi i) / 2)) (m + 1) (hi i) j = hi j := fun j hj => by rw [va_up_ne _ _ (by omega), va_up_ne _ _ (by omega)]
  have lo_m : va_up (va_up lo m (lo i)) (m + 1) ((lo i + hi i) / 2) m = lo i := by rw [va_up_ne _ _ (by omega), va_up_self]
  have hi_m : va_up (va_up hi m ((lo i + hi i) / 2)) (m + 1) (hi i) m = (lo i + hi i) / 2 := by rw [va_up_ne _ _ (by omega), va_up_self]
  have lo_n : va_up (va_up lo m (lo i)) (m + 1) ((lo i + hi i) / 2) (m + 1) = (lo i + hi i) / 2 := va_up_self _ _ _
  have hi_n : va_up (va_up hi m ((lo i + hi i) / 2)) (m + 1) (hi i) (m + 1) = hi i := va_up_self _ _ _
  generalize va_up (va_up lo m (lo i)) (m + 1) ((lo i + hi i) / 2) = lo2 at *
  generalize va_up (va_up hi m ((lo i + hi i) / 2)) (m + 1) (hi i) = hi2 at *
  refine ⟨by omega, by omega, by omega, by rw [lo_o 0 (by omega)]; exact g4, by rw [hi_o 0 (by omega)]; exact g5, fun a ha => by rw [ho a ha]; exact g6 a ha, fun j hj => ?_, fun j hj => ?_, ?_⟩
  · rw [h17, h18]
    by_cases e1 : j = m + 1
    · subst e1
      rw [if_pos rfl, if_pos rfl, lo_n, hi_n]
      exact ⟨rfl, rfl, by omega, hhS⟩
    · by_cases e2 : j = m
      · subst e2
        rw [if_neg e1, if_neg e1, if_pos rfl, if_pos rfl, lo_m, hi_m]
        exact ⟨rfl, rfl, by omega, by omega⟩
      · rw [if_neg e1, if_neg e1, if_neg e2, if_neg e2, lo_o j (by omega), hi_o j (by omega)]
        exact g7 j (by omega)
  · unfold PN
    rw [h14, h15, h16, lo_o j (by omega), hi_o j (by omega)]
    by_cases ej : j = i
    · subst ej
      refine Or.inr ⟨m, by omega, by omega, by omega, if_pos rfl, if_pos rfl, if_pos rfl, lo_m, hi_m, lo_n, hi_n⟩
    · rw [if_neg ej, if_neg ej, if_neg ej]
      rcases g8 j (by omega) with h1 | ⟨l, k1, k2, k3, k4, k5, k6, k7, k8, k9, k10⟩
      · exact Or.inl h1
      · exact Or.inr ⟨l, by omega, k2, k3, k4, k5, k6, by rw [lo_o l (by omega)]; exact k7, by rw [hi_o l (by omega)]; exact k8, by rw [lo_o (l + 1) (by omega)]; exact k9, by rw [hi_o (l + 1) (by omega)]; exact k10⟩
  · rw [show m + 2 - (i + 1) = ((m - (i + 1)) + 1) + 1 by omega, sm_r, sm_r, show i + 1 + (m - (i + 1)) = m by omega, show i + 1 + (m - (i + 1) + 1) = m + 1 by omega, lo_m, hi_m, lo_n, hi_n]
    rw [sm_cg (g := fun j => 2 * (hi j - lo j) - 2) (m - (i + 1)) (i + 1) (fun j h1 h2 => by rw [lo_o j (by omega), hi_o j (by omega)])]
    rw [show m - i = (m - (i + 1)) + 1 by omega] at g9
    have g9 : m + ((2 * (hi i - lo i) - 2) + sm (fun j => 2 * (hi j - lo j) - 2) (m - (i + 1)) (i + 1)) = 2 * S - 1 := g9
    omega
set_option maxHeartbeats 4000000 in
set_option maxRecDepth 100000 in
theorem l_X_sof_leaf {G : gG} {l : Launch} {J : gJT} {post : Int32 → gS → Prop} {iv : Nat → Int32} {av : Nat → Nat → Int32} {B : Nat → Nat} {S x nd k lo : Nat} (hJ : gR false G l (gRm 0 0) b_X_stretchOf 4 J) (hret : ∀ (pc : Nat) (lv : List (Nat × Value)) (v : Int32) (iv2 : Nat → Int32) (av2 : Nat → Nat → Int32), decode b_X_stretchOf pc = .ok (.ireturn, 1) → narrow .int (.int v) = .int v → post v (iv2, av2) → J pc lv [.int v] iv2 av2) (hx : x < 32) (hnd : nd < 64) (hk : k ≤ 8) (hlo : lo < S) (h14 : av 14 nd = -1) (h15 : av 15 nd = nI lo) (hb1 : B lo ≤ x) (hb2 : x < B (lo + 1)) (hp : ∀ s, s < S → B s ≤ x → x < B (s + 1) → post (nI s) (iv, av)) :
    J 4 [(0, .ref G.1), (1, .int (nI x)), (2, .int (nI nd)), (3, .int (nI k))] [] iv av := by
  refine g_iload_n hJ d_X_stretchOf_4 rfl ?_
  refine g_bipush hJ (v := nI 8) d_X_stretchOf_5 (by decide) ?_
  refine g_n_ge hJ (tgt := 52) d_X_stretchOf_7 (by decide) (by omega) (by omega) (fun c => ?_) (fun c => ?_)
  · refine g_ga hJ fl_X_15 (n := 64) rfl d_X_stretchOf_52 d_X_stretchOf_53 rfl ?_
    refine g_iload_n hJ d_X_stretchOf_56 rfl ?_
    refine g_iald hJ (k := 15) (n := 64) rfl (by decide) (by omega) d_X_stretchOf_57 ?_
    refine g_top (h15) ?_
    exact hret _ _ _ _ _ d_X_stretchOf_58 rfl (hp lo hlo hb1 hb2)
  · refine g_ga hJ fl_X_14 (n := 64) rfl d_X_stretchOf_10 d_X_stretchOf_11 rfl ?_
    refine g_iload_n hJ d_X_stretchOf_14 rfl ?_
    refine g_iald hJ (k := 14) (n := 64) rfl (by decide) (by omega) d_X_stretchOf_15 ?_
    refine g_top (h14) ?_
    refine g_iconst hJ (v := -1) d_X_stretchOf_16 (by decide) ?_
    refine g_icmp_eq hJ (tgt := 52) d_X_stretchOf_17 (by decide) (fun _ => ?_) (fun q => absurd q (fun h => h rfl))
    refine g_ga hJ fl_X_15 (n := 64) rfl d_X_stretchOf_52 d_X_stretchOf_53 rfl ?_
    refine g_iload_n hJ d_X_stretchOf_56 rfl ?_
    refine g_iald hJ (k := 15) (n := 64) rfl (by decide) (by omega) d_X_stretchOf_57 ?_
    refine g_top (h15) ?_
    exact hret _ _ _ _ _ d_X_stretchOf_58 rfl (hp lo hlo hb1 hb2)
set_option maxHeartbeats 4000000 in
set_option maxRecDepth 100000 in
theorem l_X_sof {G : gG} {l : Launch} {J : gJT} {post : Int32 → gS → Prop} {iv : Nat → Int32} {av : Nat → Nat → Int32} {B : Nat → Nat} {S x : Nat} (hJ : gR false G l (gRm 0 0) b_X_stretchOf 4 J) (hret : ∀ (pc : Nat) (lv : List (Nat × Value)) (v : Int32) (iv2 : Nat → Int32) (av2 : Nat → Nat → Int32), decode b_X_stretchOf pc = .ok (.ireturn, 1) → narrow .int (.int v) = .int v → post v (iv2, av2) → J pc lv [.int v] iv2 av2) (hx : x < 32) (hB : ∀ s, s ≤ S → B s ≤ 32) (hp : ∀ s, s < S → B s ≤ x → x < B (s + 1) → post (nI s) (iv, av)) :
    ∀ (d nd lo hi k : Nat), nd < 64 → hi ≤ S → k + d ≤ 8 → Tr av B d nd lo hi → B lo ≤ x → x < B hi → J 4 [(0, .ref G.1), (1, .int (nI x)), (2, .int (nI nd)), (3, .int (nI k))] [] iv av := by
  intro d
  induction d with
  | zero =>
    intro nd lo hi k hnd hhi hk hT h1 h2
    obtain ⟨h14, h15, e⟩ := hT
    subst e
    exact l_X_sof_leaf hJ hret hx hnd (by omega) (by omega) h14 h15 h1 h2 hp
  | succ d ih =>
    intro nd lo hi k hnd hhi hk hT h1 h2
    rcases hT with ⟨h14, h15, e⟩ | ⟨mid, l1, r1, hm1, hm2, hl, hr, h14, h15, h16, hTl, hTr⟩
    · subst e
      exact l_X_sof_leaf hJ hret hx hnd (by omega) (by omega) h14 h15 h1 h2 hp
    have hBm := hB mid (by omega)
    refine g_iload_n hJ d_X_stretchOf_4 rfl ?_
    refine g_bipush hJ (v := nI 8) d_X_stretchOf_5 (by decide) ?_
    refine g_n_ge hJ (tgt := 52) d_X_stretchOf_7 (by decide) (by omega) (by omega) (fun q => absurd q (by omega)) (fun _ => ?_)
    refine g_ga hJ fl_X_14 (n := 64) rfl d_X_stretchOf_10 d_X_stretchOf_11 rfl ?_
    refine g_iload_n hJ d_X_stretchOf_14 rfl ?_
    refine g_iald hJ (k := 14) (n := 64) rfl (by decide) (by omega) d_X_stretchOf_15 ?_
    refine g_top (h14) ?_
    refine g_iconst hJ (v := -1) d_X_stretchOf_16 (by decide) ?_
    refine g_icmp_eq hJ (tgt := 52) d_X_stretchOf_17 (by decide) (fun q => absurd q (nI_nm1 (by omega))) (fun _ => ?_)
    refine g_iload_n hJ d_X_stretchOf_20 rfl ?_
    refine g_ga hJ fl_X_14 (n := 64) rfl d_X_stretchOf_21 d_X_stretchOf_22 rfl ?_
    refine g_iload_n hJ d_X_stretchOf_25 rfl ?_
    refine g_iald hJ (k := 14) (n := 64) rfl (by decide) (by omega) d_X_stretchOf_26 ?_
    refine g_top (h14) ?_
    refine g_n_ge hJ (tgt := 39) d_X_stretchOf_27 (by decide) (by omega) (by omega) (fun c => ?_) (fun c => ?_)
    · refine g_ga hJ fl_X_16 (n := 64) rfl d_X_stretchOf_39 d_X_stretchOf_40 rfl ?_
      refine g_iload_n hJ d_X_stretchOf_43 rfl ?_
      refine g_iald hJ (k := 16) (n := 64) rfl (by decide) (by omega) d_X_stretchOf_44 ?_
      refine g_top (h16) ?_
      refine g_istore_n hJ (lv2 := [(0, .ref G.1), (1, .int (nI x)), (2, .int (nI r1)), (3, .int (nI k))]) d_X_stretchOf_45 (by decide) rfl rfl ?_
      refine g_inc hJ (lv2 := [(0, .ref G.1), (1, .int (nI x)), (2, .int (nI r1)), (3, .int (nI (k + 1)))]) d_X_stretchOf_46 rfl (by decide) rfl rfl ?_
      refine g_goto hJ (tgt := 4) d_X_stretchOf_49 (by decide) ?_
      exact ih r1 mid hi (k + 1) hr hhi (by omega) hTr c h2
    · refine g_ga hJ fl_X_15 (n := 64) rfl d_X_stretchOf_30 d_X_stretchOf_31 rfl ?_
      refine g_iload_n hJ d_X_stretchOf_34 rfl ?_
      refine g_iald hJ (k := 15) (n := 64) rfl (by decide) (by omega) d_X_stretchOf_35 ?_
      refine g_top (h15) ?_
      refine g_goto hJ (tgt := 45) d_X_stretchOf_36 (by decide) ?_
      refine g_istore_n hJ (lv2 := [(0, .ref G.1), (1, .int (nI x)), (2, .int (nI l1)), (3, .int (nI k))]) d_X_stretchOf_45 (by decide) rfl rfl ?_
      refine g_inc hJ (lv2 := [(0, .ref G.1), (1, .int (nI x)), (2, .int (nI l1)), (3, .int (nI (k + 1)))]) d_X_stretchOf_46 rfl (by decide) rfl rfl ?_
      refine g_goto hJ (tgt := 4) d_X_stretchOf_49 (by decide) ?_
      exact ih l1 lo mid (k + 1) hl (by omega) (by omega) hTl h1 c
set_option maxHeartbeats 4000000 in
set_option maxRecDepth 100000 in
theorem c_X_stretchOf (G : gG) (l : Launch) (iv : Nat → Int32) (av : Nat → Nat → Int32) (B : Nat → Nat) (S x : Nat) (hx : x < 32) (hB : ∀ s, s ≤ S → B s ≤ 32) (hT : Tr av B 5 0 0 S) (h0 : B 0 = 0) (hS : B S = 32) : gM false G l y_X_stretchOf b_X_stretchOf 4 (gRm 0 0) .int [.int (nI x)] iv av (fun r u => ∃ s, s < S ∧ B s ≤ x ∧ x < B (s + 1) ∧ r = nI s ∧ u = (iv, av)) := by
  refine g_met rfl (Nat.le_of_ble_eq_true rfl) (fun J hJ hret => ?_)
  refine g_lv (lv2 := [(0, .ref G.1), (1, .int (nI x))]) rfl ?_
  refine g_iconst hJ (v := nI 0) d_X_stretchOf_0 (by decide) ?_
  refine g_istore_n hJ (lv2 := [(0, .ref G.1), (1, .int (nI x)), (2, .int (nI 0))]) d_X_stretchOf_1 (by decide) rfl rfl ?_
  refine g_iconst hJ (v := nI 0) d_X_stretchOf_2 (by decide) ?_
  refine g_istore_n hJ (lv2 := [(0, .ref G.1), (1, .int (nI x)), (2, .int (nI 0)), (3, .int (nI 0))]) d_X_stretchOf_3 (by decide) rfl rfl ?_
  exact l_X_sof (post := fun r u => ∃ s, s < S ∧ B s ≤ x ∧ x < B (s + 1) ∧ r = nI s ∧ u = (iv, av)) hJ hret hx hB (fun s h1 h2 h3 => ⟨s, h1, h2, h3, rfl, rfl⟩) 5 0 0 S 0 (by decide) (Nat.le_refl S) (by decide) hT (by omega) (by omega)
set_option maxHeartbeats 4000000 in
set_option maxRecDepth 100000 in
theorem l_X_buildTree {G : gG} {l : Launch} {J : gJT} {post : gS → Prop} {iv : Nat → Int32} {av0 : Nat → Nat → Int32} {B : Nat → Nat} {S : Nat} (hJ : gR false G l (gRm 0 0) b_X_buildTree 6 J) (hret : ∀ (pc : Nat) (lv : List (Nat × Value)) (iv2 : Nat → Int32) (av2 : Nat → Nat → Int32), decode b_X_buildTree pc = .ok (.return_, 1) → post (iv2, av2) → J pc lv [] iv2 av2) (hS : S ≤ 32) (h10 : ∀ s, s < S + 1 → av0 10 s = nI (B s)) (hp : ∀ u, (fun u => u.1 = iv ∧ (∀ a, a < 14 ∨ 18 < a → u.2 a = av0 a) ∧ Tr u.2 B 5 0 0 S) u → post u) :
    ∀ (d i m : Nat) (lo hi : Nat → Nat) (av : Nat → Nat → Int32), i + d = 63 → BTI S B av0 i m lo hi av → J 21 [(0, .ref G.1), (1, .int (nI m)), (2, .int (nI i))] [] iv av := by
  intro d
  induction d with
  | zero =>
    intro i m lo hi av hi63 hI
    have hm := hI.1
    have hm63 := hI.2.2.1
    refine g_iload_n hJ d_X_buildTree_21 rfl ?_
    refine g_bipush hJ (v := nI 63) d_X_buildTree_22 (by decide) ?_
    refine g_n_ge hJ (tgt := 159) d_X_buildTree_24 (by decide) (by omega) (by omega) (fun _ => ?_) (fun q => absurd q (by omega))
    exact hret _ _ _ _ d_X_buildTree_159 (hp _ ⟨rfl, hI.2.2.2.2.2.1, bt_tr hI (by omega) hS⟩)
  | succ d ih =>
    intro i m lo hi av hi63 hI
    have hm := hI.1
    have hm63 := hI.2.2.1
    refine g_iload_n hJ d_X_buildTree_21 rfl ?_
    refine g_bipush hJ (v := nI 63) d_X_buildTree_22 (by decide) ?_
    refine g_n_ge hJ (tgt := 159) d_X_buildTree_24 (by decide) (by omega) (by omega) (fun q => absurd q (by omega)) (fun _ => ?_)
    refine g_iload_n hJ d_X_buildTree_27 rfl ?_
    refine g_iload_n hJ d_X_buildTree_28 rfl ?_
    refine g_n_ge hJ (tgt := 159) d_X_buildTree_29 (by decide) (by omega) (by omega) (fun c => ?_) (fun c => ?_)
    · exact hret _ _ _ _ d_X_buildTree_159 (hp _ ⟨rfl, hI.2.2.2.2.2.1, bt_tr hI (by omega) hS⟩)
    · obtain ⟨e17, e18, hlh, hhS⟩ := hI.2.2.2.2.2.2.1 i c
      have e10 := hI.2.2.2.2.2.1 10 (Or.inl (by decide))
      refine g_ga hJ fl_X_17 (n := 64) rfl d_X_buildTree_32 d_X_buildTree_33 rfl ?_
      refine g_iload_n hJ d_X_buildTree_36 rfl ?_
      refine g_iald hJ (k := 17) (n := 64) rfl (by decide) (by omega) d_X_buildTree_37 ?_
      refine g_top (e17) ?_
      refine g_istore_n hJ (lv2 := [(0, .ref G.1), (1, .int (nI m)), (2, .int (nI i)), (3, .int (nI (lo i)))]) d_X_buildTree_38 (by decide) rfl rfl ?_
      refine g_ga hJ fl_X_18 (n := 64) rfl d_X_buildTree_39 d_X_buildTree_40 rfl ?_
      refine g_iload_n hJ d_X_buildTree_43 rfl ?_
      refine g_iald hJ (k := 18) (n := 64) rfl (by decide) (by omega) d_X_buildTree_44 ?_
      refine g_top (e18) ?_
      refine g_istore hJ (lv2 := [(0, .ref G.1), (1, .int (nI m)), (2, .int (nI i)), (3, .int (nI (lo i))), (4, .int (nI (hi i)))]) d_X_buildTree_45 (by decide) rfl rfl ?_
      refine g_iload hJ d_X_buildTree_47 rfl ?_
      refine g_iload_n hJ d_X_buildTree_49 rfl ?_
      refine g_isubn hJ d_X_buildTree_50 (by omega) ?_
      refine g_iconst hJ (v := nI 2) d_X_buildTree_51 (by decide) ?_
      refine g_n_lt hJ (tgt := 61) d_X_buildTree_52 (by decide) (by omega) (by decide) (fun c2 => ?_) (fun c2 => ?_)
      · refine g_ga hJ fl_X_14 (n := 64) rfl d_X_buildTree_61 d_X_buildTree_62 rfl ?_
        refine g_iload_n hJ d_X_buildTree_65 rfl ?_
        refine g_iconst hJ (v := -1) d_X_buildTree_66 (by decide) ?_
        refine g_iast hJ (k := 14) (n := 64) rfl (by decide) (by omega) d_X_buildTree_67 ?_
        refine g_ga hJ fl_X_15 (n := 64) rfl d_X_buildTree_68 d_X_buildTree_69 rfl ?_
        refine g_iload_n hJ d_X_buildTree_72 rfl ?_
        refine g_iload_n hJ d_X_buildTree_73 rfl ?_
        refine g_iast hJ (k := 15) (n := 64) rfl (by decide) (by omega) d_X_buildTree_74 ?_
        refine g_goto hJ (tgt := 153) d_X_buildTree_75 (by decide) ?_
        refine g_inc hJ (lv2 := [(0, .ref G.1), (1, .int (nI m)), (2, .int (nI (i + 1))), (3, .int (nI (lo i))), (4, .int (nI (hi i)))]) d_X_buildTree_153 rfl (by decide) rfl rfl ?_
        refine g_goto hJ (tgt := 21) d_X_buildTree_156 (by decide) ?_
        refine g_drop hJ (lv2 := [(0, .ref G.1), (1, .int (nI m)), (2, .int (nI (i + 1)))]) (ex := [(3, .int (nI (lo i))), (4, .int (nI (hi i)))]) rfl ?_
        exact ih (i + 1) m lo hi _ (by omega) (bt_leaf hI c (by omega) (fun j => by simp [up2_at]) (fun j => by simp [up2_at]) (fun k hk h1 h2 => by rw [up2_k h2, up2_k h1]))
      · have hm61 : m ≤ 61 := bt_room hI c (by omega) hS
        have em : av 10 ((lo i + hi i) / 2) = nI (B ((lo i + hi i) / 2)) := by rw [e10]; exact h10 _ (by omega)
        refine g_iload_n hJ d_X_buildTree_55 rfl ?_
        refine g_bipush hJ (v := nI 62) d_X_buildTree_56 (by decide) ?_
        refine g_n_le hJ (tgt := 78) d_X_buildTree_58 (by decide) (by omega) (by omega) (fun _ => ?_) (fun q => absurd q (by omega))
        refine g_iload_n hJ d_X_buildTree_78 rfl ?_
        refine g_iload hJ d_X_buildTree_79 rfl ?_
        refine g_iaddn hJ d_X_buildTree_81 ?_
        refine g_iconst hJ (v := nI 1) d_X_buildTree_82 (by decide) ?_
        refine g_ishr hJ d_X_buildTree_83 ?_
        refine g_top (show nI (lo i + hi i) >>> (nI 1 &&& 31) = nI ((lo i + hi i) / 2) from nI_shr (r := 1) (by omega) (by decide)) ?_
        refine g_istore hJ (lv2 := [(0, .ref G.1), (1, .int (nI m)), (2, .int (nI i)), (3, .int (nI (lo i))), (4, .int (nI (hi i))), (5, .int (nI ((lo i + hi i) / 2)))]) d_X_buildTree_84 (by decide) rfl rfl ?_
        refine g_ga hJ fl_X_14 (n := 64) rfl d_X_buildTree_86 d_X_buildTree_87 rfl ?_
        refine g_iload_n hJ d_X_buildTree_90 rfl ?_
        refine g_ga hJ fl_X_10 (n := 33) rfl d_X_buildTree_91 d_X_buildTree_92 rfl ?_
        refine g_iload hJ d_X_buildTree_95 rfl ?_
        refine g_iald hJ (k := 10) (n := 33) rfl (by decide) (by omega) d_X_buildTree_97 ?_
        refine g_top (em) ?_
        refine g_iast hJ (k := 14) (n := 64) rfl (by decide) (by omega) d_X_buildTree_98 ?_
        refine g_ga hJ fl_X_15 (n := 64) rfl d_X_buildTree_99 d_X_buildTree_100 rfl ?_
        refine g_iload_n hJ d_X_buildTree_103 rfl ?_
        refine g_iload_n hJ d_X_buildTree_104 rfl ?_
        refine g_iast hJ (k := 15) (n := 64) rfl (by decide) (by omega) d_X_buildTree_105 ?_
        refine g_ga hJ fl_X_17 (n := 64) rfl d_X_buildTree_106 d_X_buildTree_107 rfl ?_
        refine g_iload_n hJ d_X_buildTree_110 rfl ?_
        refine g_iload_n hJ d_X_buildTree_111 rfl ?_
        refine g_iast hJ (k := 17) (n := 64) rfl (by decide) (by omega) d_X_buildTree_112 ?_
        refine g_ga hJ fl_X_18 (n := 64) rfl d_X_buildTree_113 d_X_buildTree_114 rfl ?_
        refine g_iload_n hJ d_X_buildTree_117 rfl ?_
        refine g_iload hJ d_X_buildTree_118 rfl ?_
        refine g_iast hJ (k := 18) (n := 64) rfl (by decide) (by omega) d_X_buildTree_120 ?_
        refine g_ga hJ fl_X_16 (n := 64) rfl d_X_buildTree_121 d_X_buildTree_122 rfl ?_
        refine g_iload_n hJ d_X_buildTree_125 rfl ?_
        refine g_iload_n hJ d_X_buildTree_126 rfl ?_
        refine g_iconst hJ (v := nI 1) d_X_buildTree_127 (by decide) ?_
        refine g_iaddn hJ d_X_buildTree_128 ?_
        refine g_iast hJ (k := 16) (n := 64) rfl (by decide) (by omega) d_X_buildTree_129 ?_
        refine g_ga hJ fl_X_17 (n := 64) rfl d_X_buildTree_130 d_X_buildTree_131 rfl ?_
        refine g_iload_n hJ d_X_buildTree_134 rfl ?_
        refine g_iconst hJ (v := nI 1) d_X_buildTree_135 (by decide) ?_
        refine g_iaddn hJ d_X_buildTree_136 ?_
        refine g_iload hJ d_X_buildTree_137 rfl ?_
        refine g_iast hJ (k := 17) (n := 64) rfl (by decide) (by omega) d_X_buildTree_139 ?_
        refine g_ga hJ fl_X_18 (n := 64) rfl d_X_buildTree_140 d_X_buildTree_141 rfl ?_
        refine g_iload_n hJ d_X_buildTree_144 rfl ?_
        refine g_iconst hJ (v := nI 1) d_X_buildTree_145 (by decide) ?_
        refine g_iaddn hJ d_X_buildTree_146 ?_
        refine g_iload hJ d_X_buildTree_147 rfl ?_
        refine g_iast hJ (k := 18) (n := 64) rfl (by decide) (by omega) d_X_buildTree_149 ?_
        refine g_iinc hJ (v := nI (m + 2)) (lv2 := [(0, .ref G.1), (1, .int (nI (m + 2))), (2, .int (nI i)), (3, .int (nI (lo i))), (4, .int (nI (hi i))), (5, .int (nI ((lo i + hi i) / 2)))]) d_X_buildTree_150 rfl (nI_add _ 2) (by decide) rfl rfl ?_
        refine g_inc hJ (lv2 := [(0, .ref G.1), (1, .int (nI (m + 2))), (2, .int (nI (i + 1))), (3, .int (nI (lo i))), (4, .int (nI (hi i))), (5, .int (nI ((lo i + hi i) / 2)))]) d_X_buildTree_153 rfl (by decide) rfl rfl ?_
        refine g_goto hJ (tgt := 21) d_X_buildTree_156 (by decide) ?_
        refine g_drop hJ (lv2 := [(0, .ref G.1), (1, .int (nI (m + 2))), (2, .int (nI (i + 1)))]) (ex := [(3, .int (nI (lo i))), (4, .int (nI (hi i))), (5, .int (nI ((lo i + hi i) / 2)))]) rfl ?_
        refine ih (i + 1) (m + 2) _ _ _ (by omega) (bt_split hI c (by omega) hS (fun j => by simp [up2_at]) (fun j => by simp [up2_at]) (fun j => by simp [up2_at]) (fun j => ?_) (fun j => ?_) (fun k hk => ?_))
        · simp only [up2_at]; simp
        · simp only [up2_at]; simp
        · repeat rw [up2_k (by omega)]
set_option maxHeartbeats 4000000 in
set_option maxRecDepth 100000 in
theorem c_X_buildTree (G : gG) (l : Launch) (iv : Nat → Int32) (av : Nat → Nat → Int32) (B : Nat → Nat) (S : Nat) (hS1 : 1 ≤ S) (hS : S ≤ 32) (h28 : iv 28 = nI S) (h10 : ∀ s, s < S + 1 → av 10 s = nI (B s)) : gMv false G l y_X_buildTree b_X_buildTree 6 (gRm 0 0) [] iv av (fun u => u.1 = iv ∧ (∀ a, a < 14 ∨ 18 < a → u.2 a = av a) ∧ Tr u.2 B 5 0 0 S) := by
  refine g_metv rfl (Nat.le_of_ble_eq_true rfl) (fun J hJ hret => ?_)
  refine g_lv (lv2 := [(0, .ref G.1)]) rfl ?_
  refine g_iconst hJ (v := nI 1) d_X_buildTree_0 (by decide) ?_
  refine g_istore_n hJ (lv2 := [(0, .ref G.1), (1, .int (nI 1))]) d_X_buildTree_1 (by decide) rfl rfl ?_
  refine g_ga hJ fl_X_17 (n := 64) rfl d_X_buildTree_2 d_X_buildTree_3 rfl ?_
  refine g_iconst hJ (v := nI 0) d_X_buildTree_6 (by decide) ?_
  refine g_iconst hJ (v := nI 0) d_X_buildTree_7 (by decide) ?_
  refine g_iast hJ (k := 17) (n := 64) rfl (by decide) (by omega) d_X_buildTree_8 ?_
  refine g_ga hJ fl_X_18 (n := 64) rfl d_X_buildTree_9 d_X_buildTree_10 rfl ?_
  refine g_iconst hJ (v := nI 0) d_X_buildTree_13 (by decide) ?_
  refine g_gi hJ fl_X_28 rfl d_X_buildTree_14 d_X_buildTree_15 rfl ?_
  refine g_top (h28) ?_
  refine g_iast hJ (k := 18) (n := 64) rfl (by decide) (by omega) d_X_buildTree_18 ?_
  refine g_iconst hJ (v := nI 0) d_X_buildTree_19 (by decide) ?_
  refine g_istore_n hJ (lv2 := [(0, .ref G.1), (1, .int (nI 1)), (2, .int (nI 0))]) d_X_buildTree_20 (by decide) rfl rfl ?_
  refine l_X_buildTree (post := fun u => u.1 = iv ∧ (∀ a, a < 14 ∨ 18 < a → u.2 a = av a) ∧ Tr u.2 B 5 0 0 S) (av0 := av) hJ hret hS h10 (fun u hu => hu) 63 0 1 (fun _ => 0) (fun _ => S) _ (by omega) ⟨by omega, by omega, by omega, rfl, rfl, fun a ha => by repeat rw [up2_k (by omega)], fun j hj => ?_, fun j hj => absurd hj (Nat.not_lt_zero j), ?_⟩
  · obtain rfl : j = 0 := by omega
    exact ⟨by simp [up2_at], by simp [up2_at], hS1, Nat.le_refl S⟩
  · show 1 + ((2 * (S - 0) - 2) + 0) = 2 * S - 1
    omega
end
section
-- the class: compile (by x5.py)
theorem nc_cg {a b : Nat → Nat → Int32} {c : Nat} (h : ∀ k, k < 9 → b k c = a k c) (hN : NC a c) : NC b c := by
  obtain ⟨out, h1, h2⟩ := hN
  have e : wN (vX b) c = wN (vX a) c := by
    unfold wN
    show (b 2 c).toNatClampNeg = (a 2 c).toNatClampNeg
    rw [h 2 (by decide)]
  exact ⟨out, by rw [h 8 (by decide)]; exact h1, by rw [e, h 6 (by decide), h 7 (by decide), h 4 (by decide)]; exact h2⟩
theorem nc_two {a a1 a2 : Nat → Nat → Int32} {r c : Nat} (k1 : ∀ k j, ¬ ((k = 6 ∨ k = 7 ∨ k = 8) ∧ j = 2 * r) → a1 k j = a k j) (n1 : NC a1 (2 * r)) (k2 : ∀ k j, ¬ ((k = 6 ∨ k = 7 ∨ k = 8) ∧ j = 2 * r + 1) → a2 k j = a1 k j) (n2 : NC a2 (2 * r + 1)) (h : ∀ c, c < 2 * r → NC a c) (hc : c < 2 * (r + 1)) : NC a2 c := by
  rcases (show c < 2 * r ∨ c = 2 * r ∨ c = 2 * r + 1 by omega) with h1 | h1 | h1
  · exact nc_cg (fun k _ => by rw [k2 k c (fun z => by omega), k1 k c (fun z => by omega)]) (h c h1)
  · subst h1
    exact nc_cg (fun k _ => k2 k _ (fun z => by omega)) n1
  · subst h1
    exact n2
theorem st_mono {V : Nat → Nat → Int32} {n k S : Nat} {B : Nat → Nat} (h : STk V n k S B) : ∀ (d s : Nat), s + d ≤ S → B s + d ≤ B (s + d)
  | 0, s, _ => Nat.le_refl _
  | d + 1, s, hd => by
    have h1 := st_mono h d s (by omega)
    have h2 := h.2.2.2.1 (s + d) (by omega)
    rw [show s + (d + 1) = s + d + 1 by omega]
    omega
theorem st_lt {V : Nat → Nat → Int32} {n k S : Nat} {B : Nat → Nat} (h : STk V n k S B) : ∀ s, s < S → B s < k ∧ B (s + 1) ≤ k := fun s hs => by
  have h1 := st_mono h (S - s) s (by omega)
  have h2 := st_mono h (S - (s + 1)) (s + 1) (by omega)
  rw [show s + (S - s) = S by omega, h.2.2.1] at h1
  rw [show s + 1 + (S - (s + 1)) = S by omega, h.2.2.1] at h2
  omega
theorem st_le {V : Nat → Nat → Int32} {n k S : Nat} {B : Nat → Nat} (h : STk V n k S B) : ∀ s, s ≤ S → B s ≤ k := fun s hs => by
  have h1 := st_mono h (S - s) s (by omega)
  rw [show s + (S - s) = S by omega, h.2.2.1] at h1
  omega
/-- the compiled tables are right -/
def CPd (n S T : Nat) (B : Nat → Nat) (iv : Nat → Int32) (av : Nat → Nat → Int32) : Prop := (∀ c, c < 2 * n → NC av c) ∧ iv 27 = nI (plN (vX av) n) ∧ (∀ j, j < 32 → av 9 j = nI (hv (vX av) n j)) ∧ iv 28 = nI S ∧ (∀ s, s < S + 1 → av 10 s = nI (B s)) ∧ STk (vX av) n 32 S B ∧ T ≤ 400 ∧ (∀ s, s < S → Ch n T av (flt (fun i => (useN (hv (vX av) n (B s)) (plN (vX av) n)).testBit i) n 0) (av 11 s)) ∧ Tr av B 5 0 0 S
def XC (n : Nat) (iv : Nat → Int32) (av : Nat → Nat → Int32) : Prop := iv 30 = nI 0 ∨ (iv 30 = nI 1 ∧ ∃ S T B, CPd n S T B iv av)
/-- only compiled tables have changed -/
def SmX (iv : Nat → Int32) (av : Nat → Nat → Int32) (u : gS) : Prop := (∀ a, a < 27 → u.1 a = iv a) ∧ (∀ a, a < 6 ∨ 18 < a → u.2 a = av a)
theorem SmX.rf {iv : Nat → Int32} {av : Nat → Nat → Int32} : SmX iv av (iv, av) := ⟨fun _ _ => rfl, fun _ _ => rfl⟩
set_option maxHeartbeats 4000000 in
set_option maxRecDepth 100000 in
theorem l_X_compile1 {G : gG} {l : Launch} {J : gJT} {post : gS → Prop} {iv0 : Nat → Int32} {av0 : Nat → Nat → Int32} {n : Nat} (hJ : gR false G l (gRm 2 49) b_X_compile 2 J)  (hn : iv0 25 = nI n) (hV : RVal n (vX av0)) :
    ∀ (d r : Nat) (iv : Nat → Int32) (av : Nat → Nat → Int32), r + d = n → (∀ a, a ≠ 27 → a ≠ 30 → iv a = iv0 a) ∧ iv 30 = nI 1 ∧ iv 27 = nI (bm (plV (vX av0)) r) ∧ (∀ a, a < 6 ∨ 8 < a → av a = av0 a) ∧ (∀ c, c < 2 * r → NC av c) → (∀ (v : Int32) (iv : Nat → Int32) (av : Nat → Nat → Int32), (∀ a, a ≠ 27 → a ≠ 30 → iv a = iv0 a) ∧ iv 30 = nI 1 ∧ iv 27 = nI (bm (plV (vX av0)) n) ∧ (∀ a, a < 6 ∨ 8 < a → av a = av0 a) ∧ (∀ c, c < 2 * n → NC av c) → J 92 [(0, .ref G.1), (1, .int v)] [] iv av) → J 20 [(0, .ref G.1), (1, .int (nI r))] [] iv av := by
  have hn12 := hV.1
  intro d
  induction d with
  | zero =>
    intro r iv av hr hI nx
    have er : r = n := by omega
    subst er
    have hn2 : iv 25 = nI r := by rw [hI.1 25 (by decide) (by decide)]; exact hn
    refine g_iload_n hJ d_X_compile_20 rfl ?_
    refine g_gi hJ fl_X_25 rfl d_X_compile_21 d_X_compile_22 rfl ?_
    refine g_top (hn2) ?_
    refine g_n_ge hJ (tgt := 92) d_X_compile_25 (by decide) (by omega) (by omega) (fun _ => ?_) (fun q => absurd q (by omega))
    exact nx _ iv av hI
  | succ d ih =>
    intro r iv av hr hI nx
    have hn2 : iv 25 = nI n := by rw [hI.1 25 (by decide) (by decide)]; exact hn
    obtain ⟨h1, h30, h27, hav, hNC⟩ := hI
    have eV : vX av = vX av0 := vX_cg (fun k hk => hav k (by omega))
    obtain ⟨w0, h01, h02, h03⟩ := hV.2.2 (2 * r) (by omega)
    obtain ⟨w1, h11, h12, h13⟩ := hV.2.2 (2 * r + 1) (by omega)
    have e0 := wN_of h03 h01
    have e1 := wN_of h13 h11
    have g03 : av 2 (2 * r) = nI w0 := by rw [hav 2 (by omega)]; exact h03
    refine g_iload_n hJ d_X_compile_20 rfl ?_
    refine g_gi hJ fl_X_25 rfl d_X_compile_21 d_X_compile_22 rfl ?_
    refine g_top (hn2) ?_
    refine g_n_ge hJ (tgt := 92) d_X_compile_25 (by decide) (by omega) (by omega) (fun q => absurd q (by omega)) (fun _ => ?_)
    refine g_aload_n hJ d_X_compile_28 rfl ?_
    refine g_iconst hJ (v := nI 2) d_X_compile_29 (by decide) ?_
    refine g_iload_n hJ d_X_compile_30 rfl ?_
    refine g_imuln hJ d_X_compile_31 ?_
    refine g_callv hJ k_X_X_normalise (c_X_normalise G l iv av (2 * r) w0 (by omega) h01 h02 g03) (by decide) (by decide) rfl (rest := []) rfl (Nat.le_of_ble_eq_true rfl) d_X_compile_32 (fun u1 hu => ?_)
    obtain ⟨iv1, av1⟩ := u1
    obtain ⟨e, k1, n1⟩ := hu
    dsimp only at e k1 n1 ⊢
    subst e
    have k1w : ∀ a, a < 6 ∨ 8 < a → av1 a = av a := fun a ha => funext (fun j => k1 a j (fun z => by omega))
    have g13 : av1 2 (2 * r + 1) = nI w1 := by rw [k1w 2 (by omega), hav 2 (by omega)]; exact h13
    refine g_aload_n hJ d_X_compile_35 rfl ?_
    refine g_iconst hJ (v := nI 2) d_X_compile_36 (by decide) ?_
    refine g_iload_n hJ d_X_compile_37 rfl ?_
    refine g_imuln hJ d_X_compile_38 ?_
    refine g_iconst hJ (v := nI 1) d_X_compile_39 (by decide) ?_
    refine g_iaddn hJ d_X_compile_40 ?_
    refine g_callv hJ k_X_X_normalise (c_X_normalise G l iv1 av1 (2 * r + 1) w1 (by omega) h11 h12 g13) (by decide) (by decide) rfl (rest := []) rfl (Nat.le_of_ble_eq_true rfl) d_X_compile_41 (fun u2 hu => ?_)
    obtain ⟨iv2, av2⟩ := u2
    obtain ⟨e, k2, n2⟩ := hu
    dsimp only at e k2 n2 ⊢
    subst e
    have k2w : ∀ a, a < 6 ∨ 8 < a → av2 a = av1 a := fun a ha => funext (fun j => k2 a j (fun z => by omega))
    have hav2 : ∀ a, a < 6 ∨ 8 < a → av2 a = av0 a := fun a ha => by rw [k2w a ha, k1w a ha, hav a ha]
    have hNC2 : ∀ c, c < 2 * (r + 1) → NC av2 c := fun c hc => nc_two k1 n1 k2 n2 hNC hc
    have g2 : av2 2 (2 * r) = nI w0 := by rw [hav2 2 (by omega)]; exact h03
    have g3 : av2 2 (2 * r + 1) = nI w1 := by rw [hav2 2 (by omega)]; exact h13
    have hbl : bm (plV (vX av0)) r < 4096 := bm_12 _ (by omega)
    have h2r : 2 ^ r ≤ 2 ^ 11 := Nat.pow_le_pow_right (by decide) (by omega)
    have nx1 : plV (vX av0) r = false → bm (plV (vX av0)) (r + 1) = bm (plV (vX av0)) r := fun h => if_neg (by rw [h]; decide)
    refine g_ga hJ fl_X_2 (n := 26) rfl d_X_compile_44 d_X_compile_45 rfl ?_
    refine g_iconst hJ (v := nI 2) d_X_compile_48 (by decide) ?_
    refine g_iload_n hJ d_X_compile_49 rfl ?_
    refine g_imuln hJ d_X_compile_50 ?_
    refine g_iald hJ (k := 2) (n := 26) rfl (by decide) (by omega) d_X_compile_51 ?_
    refine g_top (g2) ?_
    refine g_bipush hJ (v := nI 7) d_X_compile_52 (by decide) ?_
    refine g_iand hJ d_X_compile_54 ?_
    refine g_top (nI_and7 (by omega)) ?_
    refine g_nz hJ (tgt := 86) d_X_compile_55 (by decide) (by omega) (fun c0 => ?_) (fun c0 => ?_)
    · refine g_inc hJ (lv2 := [(0, .ref G.1), (1, .int (nI (r + 1)))]) d_X_compile_86 rfl (by decide) rfl rfl ?_
      refine g_goto hJ (tgt := 20) d_X_compile_89 (by decide) ?_
      exact ih (r + 1) iv2 av2 (by omega) ⟨h1, h30, by rw [nx1 (by unfold plV; rw [e0, decide_eq_false c0]; rfl)]; exact h27, hav2, hNC2⟩ nx
    · refine g_ga hJ fl_X_2 (n := 26) rfl d_X_compile_58 d_X_compile_59 rfl ?_
      refine g_iconst hJ (v := nI 2) d_X_compile_62 (by decide) ?_
      refine g_iload_n hJ d_X_compile_63 rfl ?_
      refine g_imuln hJ d_X_compile_64 ?_
      refine g_iconst hJ (v := nI 1) d_X_compile_65 (by decide) ?_
      refine g_iaddn hJ d_X_compile_66 ?_
      refine g_iald hJ (k := 2) (n := 26) rfl (by decide) (by omega) d_X_compile_67 ?_
      refine g_top (g3) ?_
      refine g_bipush hJ (v := nI 7) d_X_compile_68 (by decide) ?_
      refine g_iand hJ d_X_compile_70 ?_
      refine g_top (nI_and7 (by omega)) ?_
      refine g_nz hJ (tgt := 86) d_X_compile_71 (by decide) (by omega) (fun c1 => ?_) (fun c1 => ?_)
      · refine g_inc hJ (lv2 := [(0, .ref G.1), (1, .int (nI (r + 1)))]) d_X_compile_86 rfl (by decide) rfl rfl ?_
        refine g_goto hJ (tgt := 20) d_X_compile_89 (by decide) ?_
        exact ih (r + 1) iv2 av2 (by omega) ⟨h1, h30, by rw [nx1 (by unfold plV; rw [e1, decide_eq_false c1, Bool.and_false])]; exact h27, hav2, hNC2⟩ nx
      · refine g_aload_n hJ d_X_compile_74 rfl ?_
        refine g_gi hJ fl_X_27 rfl d_X_compile_75 d_X_compile_76 rfl ?_
        refine g_top (h27) ?_
        refine g_iconst hJ (v := nI 1) d_X_compile_79 (by decide) ?_
        refine g_iload_n hJ d_X_compile_80 rfl ?_
        refine g_ishl hJ d_X_compile_81 ?_
        refine g_top (nI_shl1 (by omega)) ?_
        refine g_ior hJ d_X_compile_82 ?_
        refine g_top (nI_or (by omega) (by omega)) ?_
        refine g_put hJ fl_X_27 rfl (pt_X_27 _) d_X_compile_83 ?_
        refine g_inc hJ (lv2 := [(0, .ref G.1), (1, .int (nI (r + 1)))]) d_X_compile_86 rfl (by decide) rfl rfl ?_
        refine g_goto hJ (tgt := 20) d_X_compile_89 (by decide) ?_
        exact ih (r + 1) _ av2 (by omega) ⟨fun a ha hb => by rw [pk_un ha]; exact h1 a ha hb, by rw [pk_un (by decide)]; exact h30, by rw [pk_us]; exact congrArg nI (show _ = bm (plV (vX av0)) (r + 1) from (if_pos (by unfold plV; rw [e0, e1, decide_eq_true c0, decide_eq_true c1]; rfl)).symm), hav2, hNC2⟩ nx
set_option maxHeartbeats 4000000 in
set_option maxRecDepth 100000 in
theorem l_X_compile2 {G : gG} {l : Launch} {J : gJT} {post : gS → Prop} {iv1 : Nat → Int32} {av1 V : Nat → Nat → Int32} {B : Nat → Nat} {n S pl : Nat} (hJ : gR false G l (gRm 2 49) b_X_compile 2 J)  (hn12 : n ≤ 12) (hS32 : S ≤ 32) (hn : iv1 25 = nI n) (h28 : iv1 28 = nI S) (h27 : iv1 27 = nI pl) (hpl : pl < 4096) (h9 : ∀ j, j < 32 → av1 9 j = nI (hv V n j)) (h10 : ∀ s, s < S + 1 → av1 10 s = nI (B s)) (hB : ∀ s, s < S → B s < 32) :
    ∀ (d s T : Nat) (iv : Nat → Int32) (av : Nat → Nat → Int32), s + d = S → iv 29 = nI T ∧ T ≤ 12 * s ∧ (∀ a, a ≠ 29 → iv a = iv1 a) ∧ (∀ a, a < 11 ∨ 13 < a → av a = av1 a) ∧ (∀ j, j < s → Ch n T av (flt (fun i => (useN (hv V n (B j)) pl).testBit i) n 0) (av 11 j)) → (∀ (v : Int32) (T : Nat) (iv : Nat → Int32) (av : Nat → Nat → Int32), iv 29 = nI T ∧ T ≤ 12 * S ∧ (∀ a, a ≠ 29 → iv a = iv1 a) ∧ (∀ a, a < 11 ∨ 13 < a → av a = av1 a) ∧ (∀ j, j < S → Ch n T av (flt (fun i => (useN (hv V n (B j)) pl).testBit i) n 0) (av 11 j)) → J 138 [(0, .ref G.1), (1, .int v)] [] iv av) → J 103 [(0, .ref G.1), (1, .int (nI s))] [] iv av := by
  intro d
  induction d with
  | zero =>
    intro s T iv av hs hI nx
    have es : s = S := by omega
    subst es
    have g28 : iv 28 = nI s := by rw [hI.2.2.1 28 (by decide)]; exact h28
    refine g_iload_n hJ d_X_compile_103 rfl ?_
    refine g_gi hJ fl_X_28 rfl d_X_compile_104 d_X_compile_105 rfl ?_
    refine g_top (g28) ?_
    refine g_n_ge hJ (tgt := 138) d_X_compile_108 (by decide) (by omega) (by omega) (fun _ => ?_) (fun q => absurd q (by omega))
    exact nx _ T iv av hI
  | succ d ih =>
    intro s T iv av hs hI nx
    obtain ⟨h29, hT, hiv, hav, hCh⟩ := hI
    have g28 : iv 28 = nI S := by rw [hiv 28 (by decide)]; exact h28
    have hBs := hB s (by omega)
    have g10 : av 10 s = nI (B s) := by rw [hav 10 (by decide)]; exact h10 s (by omega)
    have g9 : av 9 (B s) = nI (hv V n (B s)) := by rw [hav 9 (by decide)]; exact h9 _ hBs
    have hvl : hv V n (B s) < 4096 := bm_12 _ hn12
    refine g_iload_n hJ d_X_compile_103 rfl ?_
    refine g_gi hJ fl_X_28 rfl d_X_compile_104 d_X_compile_105 rfl ?_
    refine g_top (g28) ?_
    refine g_n_ge hJ (tgt := 138) d_X_compile_108 (by decide) (by omega) (by omega) (fun q => absurd q (by omega)) (fun _ => ?_)
    refine g_ga hJ fl_X_11 (n := 32) rfl d_X_compile_111 d_X_compile_112 rfl ?_
    refine g_iload_n hJ d_X_compile_115 rfl ?_
    refine g_aload_n hJ d_X_compile_116 rfl ?_
    refine g_ga hJ fl_X_9 (n := 32) rfl d_X_compile_117 d_X_compile_118 rfl ?_
    refine g_ga hJ fl_X_10 (n := 33) rfl d_X_compile_121 d_X_compile_122 rfl ?_
    refine g_iload_n hJ d_X_compile_125 rfl ?_
    refine g_iald hJ (k := 10) (n := 33) rfl (by decide) (by omega) d_X_compile_126 ?_
    refine g_top (g10) ?_
    refine g_iald hJ (k := 9) (n := 32) rfl (by decide) (by omega) d_X_compile_127 ?_
    refine g_top (g9) ?_
    refine g_call hJ k_X_X_buildChain (c_X_buildChain G l iv av n T (hv V n (B s)) pl hn12 (by rw [hiv 25 (by decide)]; exact hn) (by omega) h29 (by rw [hiv 27 (by decide)]; exact h27) hvl hpl) (by decide) (by decide) rfl (rest := [.int (nI s), .ref (G.2.1 11)]) rfl (Nat.le_of_ble_eq_true rfl) d_X_compile_128 (fun r u hu => ?_)
    obtain ⟨iv2, av2⟩ := u
    obtain ⟨T2, hT2, hF, hC⟩ := hu
    dsimp only at hF hC ⊢
    refine g_iast hJ (k := 11) (n := 32) rfl (by decide) (by omega) d_X_compile_131 ?_
    refine g_inc hJ (lv2 := [(0, .ref G.1), (1, .int (nI (s + 1)))]) d_X_compile_132 rfl (by decide) rfl rfl ?_
    refine g_goto hJ (tgt := 103) d_X_compile_135 (by decide) ?_
    refine ih (s + 1) T2 iv2 _ (by omega) ⟨hF.1, by omega, fun a ha => by rw [hF.2.2.1 a ha]; exact hiv a ha, fun a ha => by rw [up2_k (by omega), hF.2.2.2.1 a (by omega) (by omega)]; exact hav a ha, fun j hj => ?_⟩ nx
    have hx : ∀ L nd, Ch n T2 av2 L nd → Ch n T2 (up2 av2 11 s r) L nd := fun L nd h => Ch_ext (Nat.le_refl T2) (fun t _ => ⟨by rw [up2_k (by decide)], by rw [up2_k (by decide)]⟩) L nd h
    by_cases ej : j = s
    · subst ej
      rw [up2_self]
      exact hx _ _ hC
    · rw [up2_j ej, hF.2.2.2.1 11 (by decide) (by decide)]
      exact hx _ _ (Ch_ext hF.2.1 hF.2.2.2.2 _ _ (hCh j (by omega)))
set_option maxHeartbeats 4000000 in
set_option maxRecDepth 100000 in
theorem c_X_compile (G : gG) (l : Launch) (iv : Nat → Int32) (av : Nat → Nat → Int32) (n : Nat) (hn : iv 25 = nI n) (hV : RVal n (vX av)) (hXC : XC n iv av) : gMv false G l y_X_compile b_X_compile 2 (gRm 2 49) [] iv av (fun u => SmX iv av u ∧ u.1 30 = nI 1 ∧ ∃ S T B, CPd n S T B u.1 u.2) := by
  refine g_metv rfl (Nat.le_of_ble_eq_true rfl) (fun J hJ hret => ?_)
  refine g_lv (lv2 := [(0, .ref G.1)]) rfl ?_
  have hn12 := hV.1
  rcases hXC with h30 | ⟨h30, hCP⟩
  · refine g_gi hJ fl_X_30 rfl d_X_compile_0 d_X_compile_1 rfl ?_
    refine g_top (h30) ?_
    refine g_if_eq hJ (tgt := 8) d_X_compile_4 (by decide) (fun _ => ?_) (fun q => absurd q (fun h => h rfl))
    refine g_aload_n hJ d_X_compile_8 rfl ?_
    refine g_iconst hJ (v := nI 1) d_X_compile_9 (by decide) ?_
    refine g_put hJ fl_X_30 rfl pt_X_30_1 d_X_compile_10 ?_
    refine g_aload_n hJ d_X_compile_13 rfl ?_
    refine g_iconst hJ (v := nI 0) d_X_compile_14 (by decide) ?_
    refine g_put hJ fl_X_27 rfl (pt_X_27 _) d_X_compile_15 ?_
    refine g_iconst hJ (v := nI 0) d_X_compile_18 (by decide) ?_
    refine g_istore_n hJ (lv2 := [(0, .ref G.1), (1, .int (nI 0))]) d_X_compile_19 (by decide) rfl rfl ?_
    refine l_X_compile1 (post := fun _ => True) (iv0 := iv) (av0 := av) hJ hn hV n 0 _ av (by omega) ⟨fun a ha hb => by rw [pk_un ha, pk_un hb], rfl, rfl, fun _ _ => rfl, fun c hc => absurd hc (by omega)⟩ (fun v iv1 av1 hI => ?_)
    obtain ⟨h1, g30, h27, hav, hNC⟩ := hI
    have eV : vX av1 = vX av := vX_cg (fun k hk => hav k (by omega))
    refine g_aload_n hJ d_X_compile_92 rfl ?_
    refine g_callv hJ k_X_X_cutStretches (c_X_cutStretches G l iv1 av1 n hn12 (by rw [h1 25 (by decide) (by decide)]; exact hn)) (by decide) (by decide) rfl (rest := []) rfl (Nat.le_of_ble_eq_true rfl) d_X_compile_93 (fun u hu => ?_)
    obtain ⟨iv2, av2⟩ := u
    obtain ⟨S, B, h28, hiv2, hav2, h9, h10, hST⟩ := hu
    dsimp only at h28 hiv2 hav2 h9 h10 ⊢
    rw [eV] at h9 hST
    have hS32 := hST.1
    have hS1 := (hST.2.1 (by decide)).1
    have hB := st_lt hST
    refine g_aload_n hJ d_X_compile_96 rfl ?_
    refine g_iconst hJ (v := nI 0) d_X_compile_97 (by decide) ?_
    refine g_put hJ fl_X_29 rfl (pt_X_29 _) d_X_compile_98 ?_
    refine g_iconst hJ (v := nI 0) d_X_compile_101 (by decide) ?_
    refine g_istore_n hJ (lv2 := [(0, .ref G.1), (1, .int (nI 0))]) d_X_compile_102 (by decide) rfl rfl ?_
    refine l_X_compile2 (post := fun _ => True) (iv1 := upd iv2 29 (nI 0)) (av1 := av2) (V := vX av) (B := B) (S := S) (pl := plN (vX av) n) hJ hn12 hS32 (by rw [pk_un (by decide), hiv2 25 (by decide), h1 25 (by decide) (by decide)]; exact hn) (by rw [pk_un (by decide)]; exact h28) (by rw [pk_un (by decide), hiv2 27 (by decide)]; exact h27) (bm_12 _ hn12) h9 h10 (fun s hs => (hB s hs).1) S 0 0 _ av2 (by omega) ⟨rfl, by omega, fun _ _ => rfl, fun _ _ => rfl, fun j hj => absurd hj (Nat.not_lt_zero j)⟩ (fun v2 T iv3 av3 hI => ?_)
    obtain ⟨h29, hT, hiv3, hav3, hCh⟩ := hI
    have g28 : iv3 28 = nI S := by rw [hiv3 28 (by decide), pk_un (by decide)]; exact h28
    have g10 : ∀ s, s < S + 1 → av3 10 s = nI (B s) := fun s hs => by rw [hav3 10 (by decide)]; exact h10 s hs
    refine g_aload_n hJ d_X_compile_138 rfl ?_
    refine g_callv hJ k_X_X_buildTree (c_X_buildTree G l iv3 av3 B S hS1 hS32 g28 g10) (by decide) (by decide) rfl (rest := []) rfl (Nat.le_of_ble_eq_true rfl) d_X_compile_139 (fun u hu => ?_)
    obtain ⟨iv4, av4⟩ := u
    obtain ⟨e4, hav4, hTr⟩ := hu
    dsimp only at e4 hav4 hTr ⊢
    subst e4
    have hall : ∀ a, a < 6 ∨ 18 < a → av4 a = av a := fun a ha => by rw [hav4 a (by omega), hav3 a (by omega), hav2 a (by omega) (by omega), hav a (by omega)]
    have eV4 : vX av4 = vX av := vX_cg (fun k hk => hall k (by omega))
    have hivs : ∀ a, a ≠ 27 → a ≠ 28 → a ≠ 29 → a ≠ 30 → iv4 a = iv a := fun a g1 g2 g3 g4 => by rw [hiv3 a g3, pk_un g3, hiv2 a g2, h1 a g1 g4]
    refine hret _ _ _ _ d_X_compile_142 ⟨⟨fun a ha => hivs a (by omega) (by omega) (by omega) (by omega), hall⟩, ?_, S, T, B, ?_⟩
    · show iv4 30 = nI 1
      rw [hiv3 30 (by decide), pk_un (by decide), hiv2 30 (by decide)]
      exact g30
    · refine ⟨fun c hc => ?_, ?_, fun j hj => ?_, g28, fun s hs => ?_, ?_, by omega, fun s hs => ?_, hTr⟩
      · have e : ∀ k, k < 9 → av4 k = av1 k := fun k hk => by rw [hav4 k (by omega), hav3 k (by omega), hav2 k (by omega) (by omega)]
        exact nc_cg (fun k hk => by show av4 k c = av1 k c; rw [e k hk]) (hNC c hc)
      · show iv4 27 = _
        rw [hiv3 27 (by decide), pk_un (by decide), hiv2 27 (by decide), h27, eV4]
        rfl
      · show av4 9 j = _
        rw [eV4, hav4 9 (by decide), hav3 9 (by decide)]
        exact h9 j hj
      · show av4 10 s = _
        rw [hav4 10 (by decide)]
        exact g10 s hs
      · rw [eV4]
        exact hST
      · show Ch n T av4 _ (av4 11 s)
        rw [eV4, hav4 11 (by decide)]
        exact Ch_ext (Nat.le_refl T) (fun t _ => ⟨by rw [hav4 12 (by decide)], by rw [hav4 13 (by decide)]⟩) _ _ (hCh s hs)
  · refine g_gi hJ fl_X_30 rfl d_X_compile_0 d_X_compile_1 rfl ?_
    refine g_top (h30) ?_
    refine g_if_eq hJ (tgt := 8) d_X_compile_4 (by decide) (fun q => absurd q (by decide)) (fun _ => ?_)
    exact hret _ _ _ _ d_X_compile_7 (⟨SmX.rf, h30, hCP⟩)
end
section
-- the class: its questions (by x6.py)
/-- behind a question: rules, draft, arguments as before; the tables right or to be made -/
def XQ (n : Nat) (iv : Nat → Int32) (av : Nat → Nat → Int32) (u : gS) : Prop := SmX iv av u ∧ XC n u.1 u.2
theorem mt_cg {V : Nat → Nat → Int32} {n k k2 r : Nat} (h : hv V n k = hv V n k2) (hr : r < n) : mt V k r = mt V k2 r := by
  unfold mt
  rw [hv_has h hr]
theorem lst_mt_cg {V : Nat → Nat → Int32} {n k k2 : Nat} (h : hv V n k = hv V n k2) : lst (mt V k) n 0 = lst (mt V k2) n 0 := lst_cg n 0 (fun j _ hj => mt_cg h (by omega))
theorem vdt_cg {V : Nat → Nat → Int32} {n k k2 : Nat} {other : Int32} (h : hv V n k = hv V n k2) : vdt V n other k = vdt V n other k2 := by
  unfold vdt
  rw [lst_mt_cg h]
theorem fmt_cg {V : Nat → Nat → Int32} {n k k2 : Nat} (h : hv V n k = hv V n k2) : fmt V n k = fmt V n k2 := by
  unfold fmt
  rw [lst_mt_cg h]
theorem shd_cg {V : Nat → Nat → Int32} {n k k2 q : Nat} (h : hv V n k = hv V n k2) (hq : q ≤ n) : shd V q k = shd V q k2 := any_cg (fun j hj => by rw [hv_has h (show j < n by omega)])
theorem vfo_use {V : Nat → Nat → Int32} {n k : Nat} {other : Int32} (hn : n ≤ 12) : vfo V other (flt (fun r => (useN (hv V n k) (plN V n)).testBit r) n 0) = vdt V n other k := by
  unfold vfo vdt
  rw [fol_use hn]
  by_cases h : lst (mt V k) n 0 < n
  · rw [if_pos h, if_neg (nI_nm1 (by omega)), if_pos h, ix_nI (by omega)]
  · rw [if_neg h, if_pos rfl, if_neg h]
theorem hid_bit {V : Nat → Nat → Int32} {n q k j : Nat} (hq : q < n) : (hv V n k &&& (plN V n &&& (2 ^ q - 1))).testBit j = (decide (j < q) && (has V j k && plV V j)) := by
  rw [Nat.testBit_and, Nat.testBit_and, Nat.testBit_two_pow_sub_one]
  unfold hv plN
  rw [bm_bit, bm_bit]
  by_cases h : j < q
  · rw [decide_eq_true h, decide_eq_true (show j < n by omega)]
    simp
  · rw [decide_eq_false h]
    simp
theorem hid_z {V : Nat → Nat → Int32} {n q k : Nat} (hq : q < n) (h : hv V n k &&& (plN V n &&& (2 ^ q - 1)) = 0) : shd V q k = false := any_no (fun j hj => by
  have := hid_bit (V := V) (k := k) (j := j) hq
  rw [h, Nat.zero_testBit, decide_eq_true hj, Bool.true_and] at this
  exact this.symm)
theorem hid_nz {V : Nat → Nat → Int32} {n q k : Nat} (hq : q < n) (hn : n ≤ 12) (h : hv V n k &&& (plN V n &&& (2 ^ q - 1)) ≠ 0) : shd V q k = true := by
  obtain ⟨j, hj⟩ := Nat.exists_testBit_of_ne_zero h
  rw [hid_bit hq] at hj
  simp only [Bool.and_eq_true, decide_eq_true_eq] at hj
  exact any_of hj.1 (by rw [hj.2.1, hj.2.2]; rfl)
theorem op_z {V : Nat → Nat → Int32} {n k : Nat} (h : hv V n k = 0) : (!anyB (fun r => has V r k) n) = true := by
  rw [any_no (bm_zero.mp h)]
  rfl
theorem op_nz {V : Nat → Nat → Int32} {n k : Nat} (h : hv V n k ≠ 0) : (!anyB (fun r => has V r k) n) = false := by
  by_cases h2 : anyB (fun r => has V r k) n = true
  · rw [h2]; rfl
  · have h2 : anyB (fun r => has V r k) n = false := by simpa using h2
    exact absurd (bm_zero.mpr (fun r hr => any_at h2 hr)) h
theorem cw_out {P : Nat → Bool} {x y b0 b1 f g : Nat} (hxy : x ≤ y) (hb : b0 < b1) (hf : (f = b0 ∧ x < b0) ∨ (f = x ∧ b0 ≤ x)) (hg : (g = b1 - 1 ∧ b1 - 1 < y) ∨ (g = y ∧ y ≤ b1 - 1)) (ho : g < f) : cnt P (min (y + 1) b1 - x) x = cnt P (min (y + 1) b0 - x) x := by
  rw [show min (y + 1) b1 - x = min (y + 1) b0 - x by omega]
theorem cw_in {P : Nat → Bool} {x y b0 b1 f g : Nat} (hxy : x ≤ y) (hb : b0 < b1) (hf : (f = b0 ∧ x < b0) ∨ (f = x ∧ b0 ≤ x)) (hg : (g = b1 - 1 ∧ b1 - 1 < y) ∨ (g = y ∧ y ≤ b1 - 1)) (ho : f ≤ g) : cnt P (min (y + 1) b1 - x) x = cnt P (min (y + 1) b0 - x) x + cnt P (g - f + 1) f := by
  rw [show min (y + 1) b1 - x = (min (y + 1) b0 - x) + (g - f + 1) by omega, cnt_add, show x + (min (y + 1) b0 - x) = f by omega]
theorem cw_no {P : Nat → Bool} {x y b0 b1 f g : Nat} (hxy : x ≤ y) (hb : b0 < b1) (hf : (f = b0 ∧ x < b0) ∨ (f = x ∧ b0 ≤ x)) (hg : (g = b1 - 1 ∧ b1 - 1 < y) ∨ (g = y ∧ y ≤ b1 - 1)) (ho : f ≤ g) (hP : ∀ j, b0 ≤ j → j < b1 → P j = P b0) (h : P b0 = false) : cnt P (min (y + 1) b1 - x) x = cnt P (min (y + 1) b0 - x) x := by
  have e : cnt P (g - f + 1) f = 0 := cnt_none (fun j h1 h2 => by rw [hP j (by omega) (by omega)]; exact h)
  rw [cw_in hxy hb hf hg ho, e, Nat.add_zero]
theorem cw_yes {P : Nat → Bool} {x y b0 b1 f g : Nat} (hxy : x ≤ y) (hb : b0 < b1) (hf : (f = b0 ∧ x < b0) ∨ (f = x ∧ b0 ≤ x)) (hg : (g = b1 - 1 ∧ b1 - 1 < y) ∨ (g = y ∧ y ≤ b1 - 1)) (ho : f ≤ g) (hP : ∀ j, b0 ≤ j → j < b1 → P j = P b0) (h : P b0 = true) : cnt P (min (y + 1) b1 - x) x = cnt P (min (y + 1) b0 - x) x + (g - f + 1) := by
  have e : cnt P (g - f + 1) f = g - f + 1 := cnt_all (fun j h1 h2 => by rw [hP j (by omega) (by omega)]; exact h)
  rw [cw_in hxy hb hf hg ho, e]
set_option maxHeartbeats 4000000 in
set_option maxRecDepth 100000 in
theorem c_X_vd (G : gG) (l : Launch) (iv : Nat → Int32) (av : Nat → Nat → Int32) (n S T : Nat) (B : Nat → Nat) (hV : RVal n (vX av)) (hC : CPd n S T B iv av) (s : Nat) (hs : s < S) : gM false G l y_X_verdict b_X_verdict 3 (gRm 3 67) .int [.int (nI s)] iv av (fun r u => r = vdt (vX av) n (iv 26) (B s) ∧ u = (iv, av)) := by
  obtain ⟨hNC, h27, h9, h28, h10, hST, hT, hCh, hTr⟩ := hC
  have hS32 := hST.1
  rw [← vfo_use hV.1]
  exact c_X_verdict G l iv av n T hT hV hNC _ (Nat.le_trans (flt_len _ n 0) hV.1) s (by omega) (hCh s hs)
set_option maxHeartbeats 4000000 in
set_option maxRecDepth 100000 in
theorem c_X_decide (G : gG) (l : Launch) (iv : Nat → Int32) (av : Nat → Nat → Int32) (n : Nat) (hn : iv 25 = nI n) (hV : RVal n (vX av)) (hXC : XC n iv av) (x : Int32) : gM false G l y_X_decide b_X_decide 3 (gRm 4 89) .int [.int x] iv av (fun r u => r = q_decide (vX av) n (iv 26) x ∧ XQ n iv av u) := by
  refine g_met rfl (Nat.le_of_ble_eq_true rfl) (fun J hJ hret => ?_)
  refine g_lv (lv2 := [(0, .ref G.1), (1, .int x)]) rfl ?_
  refine g_iload_n hJ d_X_decide_0 rfl ?_
  refine g_calls hJ k_X_X_isNumber (c_X_isNumber l x) (by decide) (by decide) rfl rfl (Nat.le_of_ble_eq_true rfl) d_X_decide_1 ?_
  refine g_bne hJ (tgt := 9) d_X_decide_4 (by decide) (fun c1 => ?_) (fun c1 => ?_)
  · obtain ⟨k, hk, hk31, rfl⟩ := inB_of c1
    refine g_aload_n hJ d_X_decide_9 rfl ?_
    refine g_callv hJ k_X_X_compile (c_X_compile G l iv av n hn hV hXC) (by decide) (by decide) rfl (rest := []) rfl (Nat.le_of_ble_eq_true rfl) d_X_decide_10 (fun u hu => ?_)
    obtain ⟨iv1, av1⟩ := u
    obtain ⟨hSm, h30, S, T, B, hC⟩ := hu
    dsimp only at h30 hC ⊢
    have hQ : XQ n iv av (iv1, av1) := ⟨hSm, Or.inr ⟨h30, S, T, B, hC⟩⟩
    have eV : vX av1 = vX av := vX_cg (fun k hk => hSm.2 k (by omega))
    have e26 : iv1 26 = iv 26 := hSm.1 26 (by decide)
    have hn1 : iv1 25 = nI n := (hSm.1 25 (by decide)).trans hn
    have hV1 : RVal n (vX av1) := by rw [eV]; exact hV
    have hC0 := hC
    obtain ⟨hNC, h27, h9, h28, h10, hST, hT, hCh, hTr⟩ := hC0
    have hS32 := hST.1
    have hB := st_lt hST
    refine g_aload_n hJ d_X_decide_13 rfl ?_
    refine g_iload_n hJ d_X_decide_14 rfl ?_
    refine g_call hJ k_X_X_stretchOf (c_X_stretchOf G l iv1 av1 B S k hk (st_le hST) hTr (hST.2.1 (by decide)).2 hST.2.2.1) (by decide) (by decide) rfl (rest := []) rfl (Nat.le_of_ble_eq_true rfl) d_X_decide_15 (fun r u hu => ?_)
    obtain ⟨s, hs, hs1, hs2, rfl, rfl⟩ := hu
    dsimp only
    refine g_istore_n hJ (lv2 := [(0, .ref G.1), (1, .int (nI k)), (2, .int (nI s))]) d_X_decide_18 (by decide) rfl rfl ?_
    refine g_aload_n hJ d_X_decide_19 rfl ?_
    refine g_iload_n hJ d_X_decide_20 rfl ?_
    refine g_call hJ k_X_X_verdict (c_X_vd G l iv1 av1 n S T B hV1 hC s hs) (by decide) (by decide) rfl (rest := []) rfl (Nat.le_of_ble_eq_true rfl) d_X_decide_21 (fun r u hu => ?_)
    obtain ⟨rfl, rfl⟩ := hu
    dsimp only
    exact hret _ _ _ _ _ d_X_decide_24 rfl (⟨by unfold q_decide; rw [c1, if_pos rfl, ix_nI hk31, ← eV, ← e26]; exact vdt_cg (hST.2.2.2.2.1 s hs k hs1 hs2).symm, hQ⟩)
  · refine g_iconst hJ (v := -1) d_X_decide_7 (by decide) ?_
    exact hret _ _ _ _ _ d_X_decide_8 rfl (⟨by unfold q_decide; rw [c1]; rfl, SmX.rf, hXC⟩)
set_option maxHeartbeats 4000000 in
set_option maxRecDepth 100000 in
theorem c_X_matched (G : gG) (l : Launch) (iv : Nat → Int32) (av : Nat → Nat → Int32) (n : Nat) (hn : iv 25 = nI n) (hV : RVal n (vX av)) (hXC : XC n iv av) (x : Int32) : gM false G l y_X_matched b_X_matched 4 (gRm 3 70) .int [.int x] iv av (fun r u => r = q_matched (vX av) n x ∧ XQ n iv av u) := by
  refine g_met rfl (Nat.le_of_ble_eq_true rfl) (fun J hJ hret => ?_)
  refine g_lv (lv2 := [(0, .ref G.1), (1, .int x)]) rfl ?_
  refine g_iload_n hJ d_X_matched_0 rfl ?_
  refine g_calls hJ k_X_X_isNumber (c_X_isNumber l x) (by decide) (by decide) rfl rfl (Nat.le_of_ble_eq_true rfl) d_X_matched_1 ?_
  refine g_bne hJ (tgt := 9) d_X_matched_4 (by decide) (fun c1 => ?_) (fun c1 => ?_)
  · obtain ⟨k, hk, hk31, rfl⟩ := inB_of c1
    refine g_aload_n hJ d_X_matched_9 rfl ?_
    refine g_callv hJ k_X_X_compile (c_X_compile G l iv av n hn hV hXC) (by decide) (by decide) rfl (rest := []) rfl (Nat.le_of_ble_eq_true rfl) d_X_matched_10 (fun u hu => ?_)
    obtain ⟨iv1, av1⟩ := u
    obtain ⟨hSm, h30, S, T, B, hC⟩ := hu
    dsimp only at h30 hC ⊢
    have hQ : XQ n iv av (iv1, av1) := ⟨hSm, Or.inr ⟨h30, S, T, B, hC⟩⟩
    have eV : vX av1 = vX av := vX_cg (fun k hk => hSm.2 k (by omega))
    have e26 : iv1 26 = iv 26 := hSm.1 26 (by decide)
    have hn1 : iv1 25 = nI n := (hSm.1 25 (by decide)).trans hn
    have hV1 : RVal n (vX av1) := by rw [eV]; exact hV
    have hC0 := hC
    obtain ⟨hNC, h27, h9, h28, h10, hST, hT, hCh, hTr⟩ := hC0
    have hS32 := hST.1
    have hB := st_lt hST
    have hn12 := hV1.1
    refine g_aload_n hJ d_X_matched_13 rfl ?_
    refine g_iload_n hJ d_X_matched_14 rfl ?_
    refine g_call hJ k_X_X_stretchOf (c_X_stretchOf G l iv1 av1 B S k hk (st_le hST) hTr (hST.2.1 (by decide)).2 hST.2.2.1) (by decide) (by decide) rfl (rest := []) rfl (Nat.le_of_ble_eq_true rfl) d_X_matched_15 (fun r u hu => ?_)
    obtain ⟨s, hs, hs1, hs2, rfl, rfl⟩ := hu
    dsimp only
    have hq : q_matched (vX av) n (nI k) = fmt (vX av1) n (B s) := by unfold q_matched; rw [c1, if_pos rfl, ix_nI hk31, ← eV]; exact fmt_cg (hST.2.2.2.2.1 s hs k hs1 hs2)
    have hfu := fol_use (V := vX av1) (n := n) (k := B s) hn12
    refine g_istore_n hJ (lv2 := [(0, .ref G.1), (1, .int (nI k)), (2, .int (nI s))]) d_X_matched_18 (by decide) rfl rfl ?_
    refine g_aload_n hJ d_X_matched_19 rfl ?_
    refine g_ga hJ fl_X_11 (n := 32) rfl d_X_matched_20 d_X_matched_21 rfl ?_
    refine g_iload_n hJ d_X_matched_24 rfl ?_
    refine g_iald hJ (k := 11) (n := 32) rfl (by decide) (by omega) d_X_matched_25 ?_
    refine g_call hJ k_X_X_follow (c_X_follow G l iv1 av1 n T hT hV1 hNC _ (Nat.le_trans (flt_len _ n 0) hn12) _ (hCh s hs)) (by decide) (by decide) rfl (rest := []) rfl (Nat.le_of_ble_eq_true rfl) d_X_matched_26 (fun r u hu => ?_)
    obtain ⟨rfl, rfl⟩ := hu
    dsimp only
    refine g_top (hfu) ?_
    by_cases hf : lst (mt (vX av1) (B s)) n 0 < n
    · refine g_top (if_pos hf) ?_
      refine g_istore_n hJ (lv2 := [(0, .ref G.1), (1, .int (nI k)), (2, .int (nI s)), (3, .int (nI (lst (mt (vX av1) (B s)) n 0)))]) d_X_matched_29 (by decide) rfl rfl ?_
      refine g_iload_n hJ d_X_matched_30 rfl ?_
      refine g_iconst hJ (v := -1) d_X_matched_31 (by decide) ?_
      refine g_icmp_ne hJ (tgt := 40) d_X_matched_32 (by decide) (fun _ => ?_) (fun q => absurd q (nI_nm1 (by omega)))
      refine g_iload_n hJ d_X_matched_40 rfl ?_
      exact hret _ _ _ _ _ d_X_matched_41 rfl (⟨by rw [hq]; exact (if_pos hf).symm, hQ⟩)
    · refine g_top (if_neg hf) ?_
      refine g_istore_n hJ (lv2 := [(0, .ref G.1), (1, .int (nI k)), (2, .int (nI s)), (3, .int (-1))]) d_X_matched_29 (by decide) rfl rfl ?_
      refine g_iload_n hJ d_X_matched_30 rfl ?_
      refine g_iconst hJ (v := -1) d_X_matched_31 (by decide) ?_
      refine g_icmp_ne hJ (tgt := 40) d_X_matched_32 (by decide) (fun q => absurd q (fun h => h rfl)) (fun _ => ?_)
      refine g_bipush hJ (v := -2) d_X_matched_35 (by decide) ?_
      refine g_goto hJ (tgt := 41) d_X_matched_37 (by decide) ?_
      exact hret _ _ _ _ _ d_X_matched_41 rfl (⟨by rw [hq]; exact (if_neg hf).symm, hQ⟩)
  · refine g_iconst hJ (v := -1) d_X_matched_7 (by decide) ?_
    exact hret _ _ _ _ _ d_X_matched_8 rfl (⟨by unfold q_matched; rw [c1]; rfl, SmX.rf, hXC⟩)
set_option maxHeartbeats 4000000 in
set_option maxRecDepth 100000 in
theorem c_X_stretches (G : gG) (l : Launch) (iv : Nat → Int32) (av : Nat → Nat → Int32) (n : Nat) (hn : iv 25 = nI n) (hV : RVal n (vX av)) (hXC : XC n iv av) : gM false G l y_X_stretches b_X_stretches 1 (gRm 3 70) .int [] iv av (fun r u => r = q_stretches (vX av) n ∧ XQ n iv av u) := by
  refine g_met rfl (Nat.le_of_ble_eq_true rfl) (fun J hJ hret => ?_)
  refine g_lv (lv2 := [(0, .ref G.1)]) rfl ?_
  refine g_aload_n hJ d_X_stretches_0 rfl ?_
  refine g_callv hJ k_X_X_compile (c_X_compile G l iv av n hn hV hXC) (by decide) (by decide) rfl (rest := []) rfl (Nat.le_of_ble_eq_true rfl) d_X_stretches_1 (fun u hu => ?_)
  obtain ⟨iv1, av1⟩ := u
  obtain ⟨hSm, h30, S, T, B, hC⟩ := hu
  dsimp only at h30 hC ⊢
  have hQ : XQ n iv av (iv1, av1) := ⟨hSm, Or.inr ⟨h30, S, T, B, hC⟩⟩
  have eV : vX av1 = vX av := vX_cg (fun k hk => hSm.2 k (by omega))
  have e26 : iv1 26 = iv 26 := hSm.1 26 (by decide)
  have hn1 : iv1 25 = nI n := (hSm.1 25 (by decide)).trans hn
  have hV1 : RVal n (vX av1) := by rw [eV]; exact hV
  have hC0 := hC
  obtain ⟨hNC, h27, h9, h28, h10, hST, hT, hCh, hTr⟩ := hC0
  have hS32 := hST.1
  have hB := st_lt hST
  refine g_gi hJ fl_X_28 rfl d_X_stretches_4 d_X_stretches_5 rfl ?_
  refine g_top (h28) ?_
  exact hret _ _ _ _ _ d_X_stretches_8 rfl (⟨by rw [← eV]; exact congrArg nI hST.2.2.2.2.2, hQ⟩)
set_option maxHeartbeats 4000000 in
set_option maxRecDepth 100000 in
theorem l_X_matching {G : gG} {l : Launch} {J : gJT} {post : Int32 → gS → Prop} {iv1 : Nat → Int32} {av1 : Nat → Nat → Int32} {n S T : Nat} {B : Nat → Nat} {k : Nat} (hJ : gR false G l (gRm 3 70) b_X_matching 4 J) (hret : ∀ (pc : Nat) (lv : List (Nat × Value)) (v : Int32) (iv2 : Nat → Int32) (av2 : Nat → Nat → Int32), decode b_X_matching pc = .ok (.ireturn, 1) → narrow .int (.int v) = .int v → post v (iv2, av2) → J pc lv [.int v] iv2 av2) (hn1 : iv1 25 = nI n) (hV1 : RVal n (vX av1)) (hC : CPd n S T B iv1 av1) (hk : k < 32) (hp : ∀ v, v = nI (cnt (mt (vX av1) k) n 0) → post v (iv1, av1)) :
    ∀ (d r t : Nat), r + d = n → t ≤ r → t + cnt (mt (vX av1) k) d r = cnt (mt (vX av1) k) n 0 → J 17 [(0, .ref G.1), (1, .int (nI k)), (2, .int (nI t)), (3, .int (nI r))] [] iv1 av1 := by
  have hC0 := hC
  obtain ⟨hNC, h27, h9, h28, h10, hST, hT, hCh, hTr⟩ := hC0
  have hS32 := hST.1
  have hB := st_lt hST
  have hn12 := hV1.1
  have hvl : hv (vX av1) n k < 4096 := bm_12 _ hn12
  intro d
  induction d with
  | zero =>
    intro r t hr ht hc
    refine g_iload_n hJ d_X_matching_17 rfl ?_
    refine g_gi hJ fl_X_25 rfl d_X_matching_18 d_X_matching_19 rfl ?_
    refine g_top (hn1) ?_
    refine g_n_ge hJ (tgt := 56) d_X_matching_22 (by decide) (by omega) (by omega) (fun _ => ?_) (fun q => absurd q (by omega))
    refine g_iload_n hJ d_X_matching_56 rfl ?_
    exact hret _ _ _ _ _ d_X_matching_57 rfl (hp _ (by rw [← hc]; rfl))
  | succ d ih =>
    intro r t hr ht hc
    refine g_iload_n hJ d_X_matching_17 rfl ?_
    refine g_gi hJ fl_X_25 rfl d_X_matching_18 d_X_matching_19 rfl ?_
    refine g_top (hn1) ?_
    refine g_n_ge hJ (tgt := 56) d_X_matching_22 (by decide) (by omega) (by omega) (fun q => absurd q (by omega)) (fun _ => ?_)
    refine g_ga hJ fl_X_9 (n := 32) rfl d_X_matching_25 d_X_matching_26 rfl ?_
    refine g_iload_n hJ d_X_matching_29 rfl ?_
    refine g_iald hJ (k := 9) (n := 32) rfl (by decide) (by omega) d_X_matching_30 ?_
    refine g_top (h9 k hk) ?_
    refine g_iload_n hJ d_X_matching_31 rfl ?_
    refine g_ishr hJ d_X_matching_32 ?_
    refine g_iconst hJ (v := nI 1) d_X_matching_33 (by decide) ?_
    refine g_iand hJ d_X_matching_34 ?_
    refine g_top (nI_bit (by omega) (by omega)) ?_
    refine g_iconst hJ (v := nI 1) d_X_matching_35 (by decide) ?_
    refine g_n_ne hJ (tgt := 50) d_X_matching_36 (by decide) (tb_lt _) (by decide) (fun c => ?_) (fun c => ?_)
    · have hf : mt (vX av1) k r = false := by unfold mt; rw [← hv_bit (show r < n by omega), tb_f c]; rfl
      refine g_inc hJ (lv2 := [(0, .ref G.1), (1, .int (nI k)), (2, .int (nI t)), (3, .int (nI (r + 1)))]) d_X_matching_50 rfl (by decide) rfl rfl ?_
      refine g_goto hJ (tgt := 17) d_X_matching_53 (by decide) ?_
      exact ih (r + 1) t (by omega) (by omega) (by rw [cnt_f hf] at hc; exact hc)
    · have hh : has (vX av1) r k = true := by rw [← hv_bit (show r < n by omega)]; exact tb_t c
      refine g_aload_n hJ d_X_matching_39 rfl ?_
      refine g_iload_n hJ d_X_matching_40 rfl ?_
      refine g_call hJ k_X_X_holds (c_X_holds G l iv1 av1 n hV1 hNC r (by omega)) (by decide) (by decide) rfl (rest := []) rfl (Nat.le_of_ble_eq_true rfl) d_X_matching_41 (fun r u hu => ?_)
      obtain ⟨rfl, rfl⟩ := hu
      dsimp only
      refine g_beq hJ (tgt := 50) d_X_matching_44 (by decide) (fun c2 => ?_) (fun c2 => ?_)
      · refine g_inc hJ (lv2 := [(0, .ref G.1), (1, .int (nI k)), (2, .int (nI t)), (3, .int (nI (r + 1)))]) d_X_matching_50 rfl (by decide) rfl rfl ?_
        refine g_goto hJ (tgt := 17) d_X_matching_53 (by decide) ?_
        exact ih (r + 1) t (by omega) (by omega) (by rw [cnt_f (by unfold mt; rw [c2, Bool.and_false])] at hc; exact hc)
      · refine g_inc hJ (lv2 := [(0, .ref G.1), (1, .int (nI k)), (2, .int (nI (t + 1))), (3, .int (nI r))]) d_X_matching_47 rfl (by decide) rfl rfl ?_
        refine g_inc hJ (lv2 := [(0, .ref G.1), (1, .int (nI k)), (2, .int (nI (t + 1))), (3, .int (nI (r + 1)))]) d_X_matching_50 rfl (by decide) rfl rfl ?_
        refine g_goto hJ (tgt := 17) d_X_matching_53 (by decide) ?_
        exact ih (r + 1) (t + 1) (by omega) (by omega) (by rw [cnt_t (by unfold mt; rw [hh, c2]; rfl)] at hc; omega)
set_option maxHeartbeats 4000000 in
set_option maxRecDepth 100000 in
theorem c_X_matching (G : gG) (l : Launch) (iv : Nat → Int32) (av : Nat → Nat → Int32) (n : Nat) (hn : iv 25 = nI n) (hV : RVal n (vX av)) (hXC : XC n iv av) (x : Int32) : gM false G l y_X_matching b_X_matching 4 (gRm 3 70) .int [.int x] iv av (fun r u => r = q_matching (vX av) n x ∧ XQ n iv av u) := by
  refine g_met rfl (Nat.le_of_ble_eq_true rfl) (fun J hJ hret => ?_)
  refine g_lv (lv2 := [(0, .ref G.1), (1, .int x)]) rfl ?_
  refine g_iload_n hJ d_X_matching_0 rfl ?_
  refine g_calls hJ k_X_X_isNumber (c_X_isNumber l x) (by decide) (by decide) rfl rfl (Nat.le_of_ble_eq_true rfl) d_X_matching_1 ?_
  refine g_bne hJ (tgt := 9) d_X_matching_4 (by decide) (fun c1 => ?_) (fun c1 => ?_)
  · obtain ⟨k, hk, hk31, rfl⟩ := inB_of c1
    refine g_aload_n hJ d_X_matching_9 rfl ?_
    refine g_callv hJ k_X_X_compile (c_X_compile G l iv av n hn hV hXC) (by decide) (by decide) rfl (rest := []) rfl (Nat.le_of_ble_eq_true rfl) d_X_matching_10 (fun u hu => ?_)
    obtain ⟨iv1, av1⟩ := u
    obtain ⟨hSm, h30, S, T, B, hC⟩ := hu
    dsimp only at h30 hC ⊢
    have hQ : XQ n iv av (iv1, av1) := ⟨hSm, Or.inr ⟨h30, S, T, B, hC⟩⟩
    have eV : vX av1 = vX av := vX_cg (fun k hk => hSm.2 k (by omega))
    have e26 : iv1 26 = iv 26 := hSm.1 26 (by decide)
    have hn1 : iv1 25 = nI n := (hSm.1 25 (by decide)).trans hn
    have hV1 : RVal n (vX av1) := by rw [eV]; exact hV
    have hC0 := hC
    obtain ⟨hNC, h27, h9, h28, h10, hST, hT, hCh, hTr⟩ := hC0
    have hS32 := hST.1
    have hB := st_lt hST
    refine g_iconst hJ (v := nI 0) d_X_matching_13 (by decide) ?_
    refine g_istore_n hJ (lv2 := [(0, .ref G.1), (1, .int (nI k)), (2, .int (nI 0))]) d_X_matching_14 (by decide) rfl rfl ?_
    refine g_iconst hJ (v := nI 0) d_X_matching_15 (by decide) ?_
    refine g_istore_n hJ (lv2 := [(0, .ref G.1), (1, .int (nI k)), (2, .int (nI 0)), (3, .int (nI 0))]) d_X_matching_16 (by decide) rfl rfl ?_
    exact l_X_matching (post := fun r u => r = q_matching (vX av) n (nI k) ∧ XQ n iv av u) hJ hret hn1 hV1 hC hk (fun v hv => ⟨by unfold q_matching; rw [c1, if_pos rfl, ix_nI hk31, ← eV]; exact hv, hQ⟩) n 0 0 (by omega) (by omega) (by rw [Nat.zero_add])
  · refine g_iconst hJ (v := -1) d_X_matching_7 (by decide) ?_
    exact hret _ _ _ _ _ d_X_matching_8 rfl (⟨by unfold q_matching; rw [c1]; rfl, SmX.rf, hXC⟩)
set_option maxHeartbeats 4000000 in
set_option maxRecDepth 100000 in
theorem l_X_hidden {G : gG} {l : Launch} {J : gJT} {post : Int32 → gS → Prop} {iv1 : Nat → Int32} {av1 : Nat → Nat → Int32} {n S T : Nat} {B : Nat → Nat} {q : Nat} (hJ : gR false G l (gRm 3 70) b_X_hidden 5 J) (hret : ∀ (pc : Nat) (lv : List (Nat × Value)) (v : Int32) (iv2 : Nat → Int32) (av2 : Nat → Nat → Int32), decode b_X_hidden pc = .ok (.ireturn, 1) → narrow .int (.int v) = .int v → post v (iv2, av2) → J pc lv [.int v] iv2 av2) (hn1 : iv1 25 = nI n) (hV1 : RVal n (vX av1)) (hC : CPd n S T B iv1 av1) (hq : q < n) (hp : ∀ v, v = b2 (!anyB (fun k => has (vX av1) q k && !shd (vX av1) q k) 32) → post v (iv1, av1)) :
    ∀ (d s : Nat), s + d = S → (∀ j, j < B s → (fun k => has (vX av1) q k && !shd (vX av1) q k) j = false) → J 27 [(0, .ref G.1), (1, .int (nI q)), (2, .int (nI (plN (vX av1) n &&& (2 ^ q - 1)))), (3, .int (nI s))] [] iv1 av1 := by
  have hC0 := hC
  obtain ⟨hNC, h27, h9, h28, h10, hST, hT, hCh, hTr⟩ := hC0
  have hS32 := hST.1
  have hB := st_lt hST
  have hn12 := hV1.1
  intro d
  induction d with
  | zero =>
    intro s hs hc
    have es : s = S := by omega
    subst es
    refine g_iload_n hJ d_X_hidden_27 rfl ?_
    refine g_gi hJ fl_X_28 rfl d_X_hidden_28 d_X_hidden_29 rfl ?_
    refine g_top (h28) ?_
    refine g_n_ge hJ (tgt := 73) d_X_hidden_32 (by decide) (by omega) (by omega) (fun _ => ?_) (fun q => absurd q (by omega))
    refine g_iconst hJ (v := nI 1) d_X_hidden_73 (by decide) ?_
    exact hret _ _ _ _ _ d_X_hidden_74 rfl (hp _ (b2_of (by rw [any_no (fun j hj => hc j (by rw [hST.2.2.1]; exact hj))]; rfl)))
  | succ d ih =>
    intro s hs hc
    obtain ⟨hB1, hB2⟩ := hB s (by omega)
    have hvl : hv (vX av1) n (B s) < 4096 := bm_12 _ hn12
    have hpl : plN (vX av1) n < 4096 := bm_12 _ hn12
    have hbl : plN (vX av1) n &&& (2 ^ q - 1) < 4096 := Nat.lt_of_le_of_lt Nat.and_le_left hpl
    have nx : (fun k => has (vX av1) q k && !shd (vX av1) q k) (B s) = false → ∀ j, j < B (s + 1) → (fun k => has (vX av1) q k && !shd (vX av1) q k) j = false := fun h j hj => by
      rcases Nat.lt_or_ge j (B s) with h1 | h1
      · exact hc j h1
      · have e := hST.2.2.2.2.1 s (by omega) j h1 hj
        dsimp only at h ⊢
        rw [hv_has e hq, shd_cg e (by omega)]
        exact h
    refine g_iload_n hJ d_X_hidden_27 rfl ?_
    refine g_gi hJ fl_X_28 rfl d_X_hidden_28 d_X_hidden_29 rfl ?_
    refine g_top (h28) ?_
    refine g_n_ge hJ (tgt := 73) d_X_hidden_32 (by decide) (by omega) (by omega) (fun q => absurd q (by omega)) (fun _ => ?_)
    refine g_ga hJ fl_X_9 (n := 32) rfl d_X_hidden_35 d_X_hidden_36 rfl ?_
    refine g_ga hJ fl_X_10 (n := 33) rfl d_X_hidden_39 d_X_hidden_40 rfl ?_
    refine g_iload_n hJ d_X_hidden_43 rfl ?_
    refine g_iald hJ (k := 10) (n := 33) rfl (by decide) (by omega) d_X_hidden_44 ?_
    refine g_top (h10 s (by omega)) ?_
    refine g_iald hJ (k := 9) (n := 32) rfl (by decide) (by omega) d_X_hidden_45 ?_
    refine g_top (h9 _ hB1) ?_
    refine g_istore hJ (lv2 := [(0, .ref G.1), (1, .int (nI q)), (2, .int (nI (plN (vX av1) n &&& (2 ^ q - 1)))), (3, .int (nI s)), (4, .int (nI (hv (vX av1) n (B s))))]) d_X_hidden_46 (by decide) rfl rfl ?_
    refine g_iload hJ d_X_hidden_48 rfl ?_
    refine g_iload_n hJ d_X_hidden_50 rfl ?_
    refine g_ishr hJ d_X_hidden_51 ?_
    refine g_iconst hJ (v := nI 1) d_X_hidden_52 (by decide) ?_
    refine g_iand hJ d_X_hidden_53 ?_
    refine g_top (nI_bit (by omega) (by omega)) ?_
    refine g_iconst hJ (v := nI 1) d_X_hidden_54 (by decide) ?_
    refine g_n_ne hJ (tgt := 67) d_X_hidden_55 (by decide) (tb_lt _) (by decide) (fun c => ?_) (fun c => ?_)
    · have hf : has (vX av1) q (B s) = false := by rw [← hv_bit hq]; exact tb_f c
      refine g_inc hJ (lv2 := [(0, .ref G.1), (1, .int (nI q)), (2, .int (nI (plN (vX av1) n &&& (2 ^ q - 1)))), (3, .int (nI (s + 1))), (4, .int (nI (hv (vX av1) n (B s))))]) d_X_hidden_67 rfl (by decide) rfl rfl ?_
      refine g_goto hJ (tgt := 27) d_X_hidden_70 (by decide) ?_
      refine g_drop hJ (lv2 := [(0, .ref G.1), (1, .int (nI q)), (2, .int (nI (plN (vX av1) n &&& (2 ^ q - 1)))), (3, .int (nI (s + 1)))]) (ex := [(4, .int (nI (hv (vX av1) n (B s))))]) rfl ?_
      exact ih (s + 1) (by omega) (nx (by (try dsimp only); rw [hf]; rfl))
    · have hf : has (vX av1) q (B s) = true := by rw [← hv_bit hq]; exact tb_t c
      have hal : hv (vX av1) n (B s) &&& (plN (vX av1) n &&& (2 ^ q - 1)) < 4096 := Nat.lt_of_le_of_lt Nat.and_le_left hvl
      refine g_iload hJ d_X_hidden_58 rfl ?_
      refine g_iload_n hJ d_X_hidden_60 rfl ?_
      refine g_iand hJ d_X_hidden_61 ?_
      refine g_top (nI_and (by omega) (by omega)) ?_
      refine g_nz hJ (tgt := 67) d_X_hidden_62 (by decide) (by omega) (fun c2 => ?_) (fun c2 => ?_)
      · refine g_inc hJ (lv2 := [(0, .ref G.1), (1, .int (nI q)), (2, .int (nI (plN (vX av1) n &&& (2 ^ q - 1)))), (3, .int (nI (s + 1))), (4, .int (nI (hv (vX av1) n (B s))))]) d_X_hidden_67 rfl (by decide) rfl rfl ?_
        refine g_goto hJ (tgt := 27) d_X_hidden_70 (by decide) ?_
        refine g_drop hJ (lv2 := [(0, .ref G.1), (1, .int (nI q)), (2, .int (nI (plN (vX av1) n &&& (2 ^ q - 1)))), (3, .int (nI (s + 1)))]) (ex := [(4, .int (nI (hv (vX av1) n (B s))))]) rfl ?_
        exact ih (s + 1) (by omega) (nx (by (try dsimp only); rw [hid_nz hq hn12 c2, Bool.not_true, Bool.and_false]))
      · refine g_iconst hJ (v := nI 0) d_X_hidden_65 (by decide) ?_
        exact hret _ _ _ _ _ d_X_hidden_66 rfl (hp _ (b2_nof (by rw [any_of (p := fun k => has (vX av1) q k && !shd (vX av1) q k) (j := B s) hB1 (by (try dsimp only); rw [hf, hid_z hq c2]; rfl)]; rfl)))
set_option maxHeartbeats 4000000 in
set_option maxRecDepth 100000 in
theorem c_X_hidden (G : gG) (l : Launch) (iv : Nat → Int32) (av : Nat → Nat → Int32) (n : Nat) (hn : iv 25 = nI n) (hV : RVal n (vX av)) (hXC : XC n iv av) (x : Int32) : gM false G l y_X_hidden b_X_hidden 5 (gRm 3 70) .int [.int x] iv av (fun r u => r = q_hidden (vX av) n x ∧ XQ n iv av u) := by
  refine g_met rfl (Nat.le_of_ble_eq_true rfl) (fun J hJ hret => ?_)
  refine g_lv (lv2 := [(0, .ref G.1), (1, .int x)]) rfl ?_
  have hn12 := hV.1
  refine g_aload_n hJ d_X_hidden_0 rfl ?_
  refine g_iload_n hJ d_X_hidden_1 rfl ?_
  refine g_call hJ k_X_X_isRule (c_X_isRule G l iv av n hn hn12 x) (by decide) (by decide) rfl (rest := []) rfl (Nat.le_of_ble_eq_true rfl) d_X_hidden_2 (fun r u hu => ?_)
  obtain ⟨rfl, rfl⟩ := hu
  dsimp only
  refine g_bne hJ (tgt := 10) d_X_hidden_5 (by decide) (fun c1 => ?_) (fun c1 => ?_)
  · obtain ⟨q, hk, hk31, rfl⟩ := inB_of c1
    refine g_aload_n hJ d_X_hidden_10 rfl ?_
    refine g_callv hJ k_X_X_compile (c_X_compile G l iv av n hn hV hXC) (by decide) (by decide) rfl (rest := []) rfl (Nat.le_of_ble_eq_true rfl) d_X_hidden_11 (fun u hu => ?_)
    obtain ⟨iv1, av1⟩ := u
    obtain ⟨hSm, h30, S, T, B, hC⟩ := hu
    dsimp only at h30 hC ⊢
    have hQ : XQ n iv av (iv1, av1) := ⟨hSm, Or.inr ⟨h30, S, T, B, hC⟩⟩
    have eV : vX av1 = vX av := vX_cg (fun k hk => hSm.2 k (by omega))
    have e26 : iv1 26 = iv 26 := hSm.1 26 (by decide)
    have hn1 : iv1 25 = nI n := (hSm.1 25 (by decide)).trans hn
    have hV1 : RVal n (vX av1) := by rw [eV]; exact hV
    have hC0 := hC
    obtain ⟨hNC, h27, h9, h28, h10, hST, hT, hCh, hTr⟩ := hC0
    have hS32 := hST.1
    have hB := st_lt hST
    have hpl : plN (vX av1) n < 4096 := bm_12 _ hn12
    have h2q : 1 ≤ 2 ^ q := Nat.one_le_two_pow
    have h2r : 2 ^ q ≤ 2 ^ 11 := Nat.pow_le_pow_right (by decide) (by omega)
    refine g_gi hJ fl_X_27 rfl d_X_hidden_14 d_X_hidden_15 rfl ?_
    refine g_top (h27) ?_
    refine g_iconst hJ (v := nI 1) d_X_hidden_18 (by decide) ?_
    refine g_iload_n hJ d_X_hidden_19 rfl ?_
    refine g_ishl hJ d_X_hidden_20 ?_
    refine g_top (nI_shl1 (by omega)) ?_
    refine g_iconst hJ (v := nI 1) d_X_hidden_21 (by decide) ?_
    refine g_isubn hJ d_X_hidden_22 (by omega) ?_
    refine g_iand hJ d_X_hidden_23 ?_
    refine g_top (nI_and (by omega) (by omega)) ?_
    refine g_istore_n hJ (lv2 := [(0, .ref G.1), (1, .int (nI q)), (2, .int (nI (plN (vX av1) n &&& (2 ^ q - 1))))]) d_X_hidden_24 (by decide) rfl rfl ?_
    refine g_iconst hJ (v := nI 0) d_X_hidden_25 (by decide) ?_
    refine g_istore_n hJ (lv2 := [(0, .ref G.1), (1, .int (nI q)), (2, .int (nI (plN (vX av1) n &&& (2 ^ q - 1)))), (3, .int (nI 0))]) d_X_hidden_26 (by decide) rfl rfl ?_
    exact l_X_hidden (post := fun r u => r = q_hidden (vX av) n (nI q) ∧ XQ n iv av u) hJ hret hn1 hV1 hC hk (fun v hv => ⟨by unfold q_hidden; rw [c1, if_pos rfl, ix_nI hk31, ← eV]; exact hv, hQ⟩) S 0 (by omega) (fun j hj => absurd hj (by rw [(hST.2.1 (by decide)).2]; omega))
  · refine g_iconst hJ (v := -1) d_X_hidden_8 (by decide) ?_
    exact hret _ _ _ _ _ d_X_hidden_9 rfl (⟨by unfold q_hidden; rw [c1]; rfl, SmX.rf, hXC⟩)
set_option maxHeartbeats 4000000 in
set_option maxRecDepth 100000 in
theorem l_X_open {G : gG} {l : Launch} {J : gJT} {post : Int32 → gS → Prop} {iv1 : Nat → Int32} {av1 : Nat → Nat → Int32} {n S T : Nat} {B : Nat → Nat} (hJ : gR false G l (gRm 3 70) b_X_open 3 J) (hret : ∀ (pc : Nat) (lv : List (Nat × Value)) (v : Int32) (iv2 : Nat → Int32) (av2 : Nat → Nat → Int32), decode b_X_open pc = .ok (.ireturn, 1) → narrow .int (.int v) = .int v → post v (iv2, av2) → J pc lv [.int v] iv2 av2) (hn1 : iv1 25 = nI n) (hV1 : RVal n (vX av1)) (hC : CPd n S T B iv1 av1) (hp : ∀ v, v = nI (cnt (fun k => !anyB (fun r => has (vX av1) r k) n) 32 0) → post v (iv1, av1)) :
    ∀ (d s t : Nat), s + d = S → t = cnt (fun k => !anyB (fun r => has (vX av1) r k) n) (B s) 0 → J 8 [(0, .ref G.1), (1, .int (nI t)), (2, .int (nI s))] [] iv1 av1 := by
  have hC0 := hC
  obtain ⟨hNC, h27, h9, h28, h10, hST, hT, hCh, hTr⟩ := hC0
  have hS32 := hST.1
  have hB := st_lt hST
  have hn12 := hV1.1
  intro d
  induction d with
  | zero =>
    intro s t hs hc
    have es : s = S := by omega
    subst es
    refine g_iload_n hJ d_X_open_8 rfl ?_
    refine g_gi hJ fl_X_28 rfl d_X_open_9 d_X_open_10 rfl ?_
    refine g_top (h28) ?_
    refine g_n_ge hJ (tgt := 54) d_X_open_13 (by decide) (by omega) (by omega) (fun _ => ?_) (fun q => absurd q (by omega))
    refine g_iload_n hJ d_X_open_54 rfl ?_
    exact hret _ _ _ _ _ d_X_open_55 rfl (hp _ (by rw [hc, hST.2.2.1]))
  | succ d ih =>
    intro s t hs hc
    obtain ⟨hB1, hB2⟩ := hB s (by omega)
    have hBs := hST.2.2.2.1 s (by omega)
    have hvl : hv (vX av1) n (B s) < 4096 := bm_12 _ hn12
    have ht32 : t ≤ 32 := by rw [hc]; exact Nat.le_trans (cnt_le _ _ _) (by omega)
    have hst : ∀ j, B s ≤ j → j < B (s + 1) → (fun k => !anyB (fun r => has (vX av1) r k) n) j = (fun k => !anyB (fun r => has (vX av1) r k) n) (B s) := fun j h1 h2 => by
      have e := hST.2.2.2.2.1 s (by omega) j h1 h2
      dsimp only
      rw [any_cg (fun r hr => hv_has e hr)]
    have hadd : cnt (fun k => !anyB (fun r => has (vX av1) r k) n) (B (s + 1)) 0 = cnt (fun k => !anyB (fun r => has (vX av1) r k) n) (B s) 0 + cnt (fun k => !anyB (fun r => has (vX av1) r k) n) (B (s + 1) - B s) (B s) := by
      have := cnt_add (fun k => !anyB (fun r => has (vX av1) r k) n) (B s) (B (s + 1) - B s) 0
      rw [Nat.zero_add, show B s + (B (s + 1) - B s) = B (s + 1) by omega] at this
      exact this
    refine g_iload_n hJ d_X_open_8 rfl ?_
    refine g_gi hJ fl_X_28 rfl d_X_open_9 d_X_open_10 rfl ?_
    refine g_top (h28) ?_
    refine g_n_ge hJ (tgt := 54) d_X_open_13 (by decide) (by omega) (by omega) (fun q => absurd q (by omega)) (fun _ => ?_)
    refine g_ga hJ fl_X_9 (n := 32) rfl d_X_open_16 d_X_open_17 rfl ?_
    refine g_ga hJ fl_X_10 (n := 33) rfl d_X_open_20 d_X_open_21 rfl ?_
    refine g_iload_n hJ d_X_open_24 rfl ?_
    refine g_iald hJ (k := 10) (n := 33) rfl (by decide) (by omega) d_X_open_25 ?_
    refine g_top (h10 s (by omega)) ?_
    refine g_iald hJ (k := 9) (n := 32) rfl (by decide) (by omega) d_X_open_26 ?_
    refine g_top (h9 _ hB1) ?_
    refine g_nz hJ (tgt := 48) d_X_open_27 (by decide) (by omega) (fun c => ?_) (fun c => ?_)
    · refine g_inc hJ (lv2 := [(0, .ref G.1), (1, .int (nI t)), (2, .int (nI (s + 1)))]) d_X_open_48 rfl (by decide) rfl rfl ?_
      refine g_goto hJ (tgt := 8) d_X_open_51 (by decide) ?_
      exact ih (s + 1) t (by omega) (by rw [hadd, ← hc, cnt_none (fun j h1 h2 => (hst j h1 (by omega)).trans (op_nz c)), Nat.add_zero])
    · refine g_iload_n hJ d_X_open_30 rfl ?_
      refine g_ga hJ fl_X_10 (n := 33) rfl d_X_open_31 d_X_open_32 rfl ?_
      refine g_iload_n hJ d_X_open_35 rfl ?_
      refine g_iconst hJ (v := nI 1) d_X_open_36 (by decide) ?_
      refine g_iaddn hJ d_X_open_37 ?_
      refine g_iald hJ (k := 10) (n := 33) rfl (by decide) (by omega) d_X_open_38 ?_
      refine g_top (h10 (s + 1) (by omega)) ?_
      refine g_ga hJ fl_X_10 (n := 33) rfl d_X_open_39 d_X_open_40 rfl ?_
      refine g_iload_n hJ d_X_open_43 rfl ?_
      refine g_iald hJ (k := 10) (n := 33) rfl (by decide) (by omega) d_X_open_44 ?_
      refine g_top (h10 s (by omega)) ?_
      refine g_isubn hJ d_X_open_45 (by omega) ?_
      refine g_iaddn hJ d_X_open_46 ?_
      refine g_istore_n hJ (lv2 := [(0, .ref G.1), (1, .int (nI (t + (B (s + 1) - (B s))))), (2, .int (nI s))]) d_X_open_47 (by decide) rfl rfl ?_
      refine g_inc hJ (lv2 := [(0, .ref G.1), (1, .int (nI (t + (B (s + 1) - (B s))))), (2, .int (nI (s + 1)))]) d_X_open_48 rfl (by decide) rfl rfl ?_
      refine g_goto hJ (tgt := 8) d_X_open_51 (by decide) ?_
      exact ih (s + 1) _ (by omega) (by rw [hadd, ← hc, cnt_all (fun j h1 h2 => (hst j h1 (by omega)).trans (op_z c))])
set_option maxHeartbeats 4000000 in
set_option maxRecDepth 100000 in
theorem c_X_open (G : gG) (l : Launch) (iv : Nat → Int32) (av : Nat → Nat → Int32) (n : Nat) (hn : iv 25 = nI n) (hV : RVal n (vX av)) (hXC : XC n iv av) : gM false G l y_X_open b_X_open 3 (gRm 3 70) .int [] iv av (fun r u => r = q_open (vX av) n ∧ XQ n iv av u) := by
  refine g_met rfl (Nat.le_of_ble_eq_true rfl) (fun J hJ hret => ?_)
  refine g_lv (lv2 := [(0, .ref G.1)]) rfl ?_
  refine g_aload_n hJ d_X_open_0 rfl ?_
  refine g_callv hJ k_X_X_compile (c_X_compile G l iv av n hn hV hXC) (by decide) (by decide) rfl (rest := []) rfl (Nat.le_of_ble_eq_true rfl) d_X_open_1 (fun u hu => ?_)
  obtain ⟨iv1, av1⟩ := u
  obtain ⟨hSm, h30, S, T, B, hC⟩ := hu
  dsimp only at h30 hC ⊢
  have hQ : XQ n iv av (iv1, av1) := ⟨hSm, Or.inr ⟨h30, S, T, B, hC⟩⟩
  have eV : vX av1 = vX av := vX_cg (fun k hk => hSm.2 k (by omega))
  have e26 : iv1 26 = iv 26 := hSm.1 26 (by decide)
  have hn1 : iv1 25 = nI n := (hSm.1 25 (by decide)).trans hn
  have hV1 : RVal n (vX av1) := by rw [eV]; exact hV
  have hC0 := hC
  obtain ⟨hNC, h27, h9, h28, h10, hST, hT, hCh, hTr⟩ := hC0
  have hS32 := hST.1
  have hB := st_lt hST
  refine g_iconst hJ (v := nI 0) d_X_open_4 (by decide) ?_
  refine g_istore_n hJ (lv2 := [(0, .ref G.1), (1, .int (nI 0))]) d_X_open_5 (by decide) rfl rfl ?_
  refine g_iconst hJ (v := nI 0) d_X_open_6 (by decide) ?_
  refine g_istore_n hJ (lv2 := [(0, .ref G.1), (1, .int (nI 0)), (2, .int (nI 0))]) d_X_open_7 (by decide) rfl rfl ?_
  exact l_X_open (post := fun r u => r = q_open (vX av) n ∧ XQ n iv av u) hJ hret hn1 hV1 hC (fun v hv => ⟨by rw [← eV]; exact hv, hQ⟩) S 0 0 (by omega) (by rw [(hST.2.1 (by decide)).2]; rfl)
set_option maxHeartbeats 4000000 in
set_option maxRecDepth 100000 in
theorem l_X_nextWith {G : gG} {l : Launch} {J : gJT} {post : Int32 → gS → Prop} {iv1 : Nat → Int32} {av1 : Nat → Nat → Int32} {n S T : Nat} {B : Nat → Nat} {a z : Int32} {x : Nat} (hJ : gR false G l (gRm 4 89) b_X_nextWith 5 J) (hret : ∀ (pc : Nat) (lv : List (Nat × Value)) (v : Int32) (iv2 : Nat → Int32) (av2 : Nat → Nat → Int32), decode b_X_nextWith pc = .ok (.ireturn, 1) → narrow .int (.int v) = .int v → post v (iv2, av2) → J pc lv [.int v] iv2 av2) (hV1 : RVal n (vX av1)) (hC : CPd n S T B iv1 av1) (hx : x < 32) (hp : ∀ v, v = (if lst (fun k => decide (vdt (vX av1) n (iv1 26) k = a)) (32 - x) x < 32 then nI (lst (fun k => decide (vdt (vX av1) n (iv1 26) k = a)) (32 - x) x) else -3) → post v (iv1, av1)) :
    ∀ (d s : Nat), s + d = S → (s < S → x < B (s + 1)) → (∀ j, x ≤ j → j < B s → (fun k => decide (vdt (vX av1) n (iv1 26) k = a)) j = false) → J 32 [(0, .ref G.1), (1, .int a), (2, .int (nI x)), (3, .int z), (4, .int (nI s))] [] iv1 av1 := by
  have hC0 := hC
  obtain ⟨hNC, h27, h9, h28, h10, hST, hT, hCh, hTr⟩ := hC0
  have hS32 := hST.1
  have hB := st_lt hST
  have hn12 := hV1.1
  intro d
  induction d with
  | zero =>
    intro s hs hxs hc
    have es : s = S := by omega
    subst es
    refine g_iload hJ d_X_nextWith_32 rfl ?_
    refine g_gi hJ fl_X_28 rfl d_X_nextWith_34 d_X_nextWith_35 rfl ?_
    refine g_top (h28) ?_
    refine g_n_ge hJ (tgt := 80) d_X_nextWith_38 (by decide) (by omega) (by omega) (fun _ => ?_) (fun q => absurd q (by omega))
    refine g_bipush hJ (v := -3) d_X_nextWith_80 (by decide) ?_
    exact hret _ _ _ _ _ d_X_nextWith_82 rfl (hp _ (by rw [lst_none (p := fun k => decide (vdt (vX av1) n (iv1 26) k = a)) (d := 32 - x) (i := x) (fun j h1 h2 => hc j h1 (by rw [hST.2.2.1]; omega)), if_neg (by omega)]))
  | succ d ih =>
    intro s hs hxs hc
    obtain ⟨hB1, hB2⟩ := hB s (by omega)
    have hBs := hST.2.2.2.1 s (by omega)
    have hx1 := hxs (by omega)
    have hst : ∀ j, B s ≤ j → j < B (s + 1) → vdt (vX av1) n (iv1 26) j = vdt (vX av1) n (iv1 26) (B s) := fun j h1 h2 => vdt_cg (hST.2.2.2.2.1 s (by omega) j h1 h2)
    refine g_iload hJ d_X_nextWith_32 rfl ?_
    refine g_gi hJ fl_X_28 rfl d_X_nextWith_34 d_X_nextWith_35 rfl ?_
    refine g_top (h28) ?_
    refine g_n_ge hJ (tgt := 80) d_X_nextWith_38 (by decide) (by omega) (by omega) (fun q => absurd q (by omega)) (fun _ => ?_)
    refine g_aload_n hJ d_X_nextWith_41 rfl ?_
    refine g_iload hJ d_X_nextWith_42 rfl ?_
    refine g_call hJ k_X_X_verdict (c_X_vd G l iv1 av1 n S T B hV1 hC s (by omega)) (by decide) (by decide) rfl (rest := []) rfl (Nat.le_of_ble_eq_true rfl) d_X_nextWith_44 (fun r u hu => ?_)
    obtain ⟨rfl, rfl⟩ := hu
    dsimp only
    refine g_iload_n hJ d_X_nextWith_47 rfl ?_
    refine g_icmp_ne hJ (tgt := 74) d_X_nextWith_48 (by decide) (fun c => ?_) (fun c => ?_)
    · refine g_inc hJ (lv2 := [(0, .ref G.1), (1, .int a), (2, .int (nI x)), (3, .int z), (4, .int (nI (s + 1)))]) d_X_nextWith_74 rfl (by decide) rfl rfl ?_
      refine g_goto hJ (tgt := 32) d_X_nextWith_77 (by decide) ?_
      refine ih (s + 1) (by omega) (fun h => Nat.lt_trans hx1 (hST.2.2.2.1 (s + 1) h)) (fun j h1 h2 => ?_)
      rcases Nat.lt_or_ge j (B s) with h3 | h3
      · exact hc j h1 h3
      · exact decide_eq_false (by rw [hst j h3 h2]; exact c)
    · refine g_ga hJ fl_X_10 (n := 33) rfl d_X_nextWith_51 d_X_nextWith_52 rfl ?_
      refine g_iload hJ d_X_nextWith_55 rfl ?_
      refine g_iald hJ (k := 10) (n := 33) rfl (by decide) (by omega) d_X_nextWith_57 ?_
      refine g_top (h10 s (by omega)) ?_
      refine g_iload_n hJ d_X_nextWith_58 rfl ?_
      refine g_n_le hJ (tgt := 72) d_X_nextWith_59 (by decide) (by omega) (by omega) (fun c2 => ?_) (fun c2 => ?_)
      · refine g_iload_n hJ d_X_nextWith_72 rfl ?_
        exact hret _ _ _ _ _ d_X_nextWith_73 rfl (hp _ (by rw [lst_is (p := fun k => decide (vdt (vX av1) n (iv1 26) k = a)) (r := x) (Nat.le_refl x) (by omega) (decide_eq_true (by rw [hst x c2 hx1]; exact c)) (fun j h1 h2 => absurd h2 (by omega)), if_pos hx]))
      · refine g_ga hJ fl_X_10 (n := 33) rfl d_X_nextWith_62 d_X_nextWith_63 rfl ?_
        refine g_iload hJ d_X_nextWith_66 rfl ?_
        refine g_iald hJ (k := 10) (n := 33) rfl (by decide) (by omega) d_X_nextWith_68 ?_
        refine g_top (h10 s (by omega)) ?_
        refine g_goto hJ (tgt := 73) d_X_nextWith_69 (by decide) ?_
        exact hret _ _ _ _ _ d_X_nextWith_73 rfl (hp _ (by rw [lst_is (p := fun k => decide (vdt (vX av1) n (iv1 26) k = a)) (r := B s) (by omega) (by omega) (decide_eq_true c) (fun j h1 h2 => hc j h1 h2), if_pos hB1]))
set_option maxHeartbeats 4000000 in
set_option maxRecDepth 100000 in
theorem c_X_nextWith (G : gG) (l : Launch) (iv : Nat → Int32) (av : Nat → Nat → Int32) (n : Nat) (hn : iv 25 = nI n) (hV : RVal n (vX av)) (hXC : XC n iv av) (a x : Int32) : gM false G l y_X_nextWith b_X_nextWith 5 (gRm 4 89) .int [.int a, .int x] iv av (fun r u => r = q_next (vX av) n (iv 26) a x ∧ XQ n iv av u) := by
  refine g_met rfl (Nat.le_of_ble_eq_true rfl) (fun J hJ hret => ?_)
  refine g_lv (lv2 := [(0, .ref G.1), (1, .int a), (2, .int x)]) rfl ?_
  refine g_iload_n hJ d_X_nextWith_0 rfl ?_
  refine g_calls hJ k_X_X_isAction (c_X_isAction l a) (by decide) (by decide) rfl rfl (Nat.le_of_ble_eq_true rfl) d_X_nextWith_1 ?_
  refine g_bne hJ (tgt := 9) d_X_nextWith_4 (by decide) (fun c1 => ?_) (fun c1 => ?_)
  · refine g_iload_n hJ d_X_nextWith_9 rfl ?_
    refine g_calls hJ k_X_X_isNumber (c_X_isNumber l x) (by decide) (by decide) rfl rfl (Nat.le_of_ble_eq_true rfl) d_X_nextWith_10 ?_
    refine g_bne hJ (tgt := 19) d_X_nextWith_13 (by decide) (fun c2 => ?_) (fun c2 => ?_)
    · obtain ⟨k, hk, hk31, rfl⟩ := inB_of c2
      refine g_aload_n hJ d_X_nextWith_19 rfl ?_
      refine g_callv hJ k_X_X_compile (c_X_compile G l iv av n hn hV hXC) (by decide) (by decide) rfl (rest := []) rfl (Nat.le_of_ble_eq_true rfl) d_X_nextWith_20 (fun u hu => ?_)
      obtain ⟨iv1, av1⟩ := u
      obtain ⟨hSm, h30, S, T, B, hC⟩ := hu
      dsimp only at h30 hC ⊢
      have hQ : XQ n iv av (iv1, av1) := ⟨hSm, Or.inr ⟨h30, S, T, B, hC⟩⟩
      have eV : vX av1 = vX av := vX_cg (fun k hk => hSm.2 k (by omega))
      have e26 : iv1 26 = iv 26 := hSm.1 26 (by decide)
      have hn1 : iv1 25 = nI n := (hSm.1 25 (by decide)).trans hn
      have hV1 : RVal n (vX av1) := by rw [eV]; exact hV
      have hC0 := hC
      obtain ⟨hNC, h27, h9, h28, h10, hST, hT, hCh, hTr⟩ := hC0
      have hS32 := hST.1
      have hB := st_lt hST
      refine g_aload_n hJ d_X_nextWith_23 rfl ?_
      refine g_iload_n hJ d_X_nextWith_24 rfl ?_
      refine g_call hJ k_X_X_stretchOf (c_X_stretchOf G l iv1 av1 B S k hk (st_le hST) hTr (hST.2.1 (by decide)).2 hST.2.2.1) (by decide) (by decide) rfl (rest := []) rfl (Nat.le_of_ble_eq_true rfl) d_X_nextWith_25 (fun r u hu => ?_)
      obtain ⟨s, hs, hs1, hs2, rfl, rfl⟩ := hu
      dsimp only
      refine g_istore_n hJ (lv2 := [(0, .ref G.1), (1, .int a), (2, .int (nI k)), (3, .int (nI s))]) d_X_nextWith_28 (by decide) rfl rfl ?_
      refine g_iload_n hJ d_X_nextWith_29 rfl ?_
      refine g_istore hJ (lv2 := [(0, .ref G.1), (1, .int a), (2, .int (nI k)), (3, .int (nI s)), (4, .int (nI s))]) d_X_nextWith_30 (by decide) rfl rfl ?_
      exact l_X_nextWith (post := fun r u => r = q_next (vX av) n (iv 26) a (nI k) ∧ XQ n iv av u) hJ hret hV1 hC hk (fun v hv => ⟨by unfold q_next; rw [c1, if_pos rfl, c2, if_pos rfl, ix_nI hk31, ← eV, ← e26]; exact hv, hQ⟩) (S - s) s (by omega) (fun _ => hs2) (fun j h1 h2 => absurd h2 (by omega))
    · refine g_bipush hJ (v := -2) d_X_nextWith_16 (by decide) ?_
      exact hret _ _ _ _ _ d_X_nextWith_18 rfl (⟨by unfold q_next; rw [c1, if_pos rfl, c2]; rfl, SmX.rf, hXC⟩)
  · refine g_iconst hJ (v := -1) d_X_nextWith_7 (by decide) ?_
    exact hret _ _ _ _ _ d_X_nextWith_8 rfl (⟨by unfold q_next; rw [c1]; rfl, SmX.rf, hXC⟩)
set_option maxHeartbeats 4000000 in
set_option maxRecDepth 100000 in
theorem l_X_countWith {G : gG} {l : Launch} {J : gJT} {post : Int32 → gS → Prop} {iv1 : Nat → Int32} {av1 : Nat → Nat → Int32} {n S T : Nat} {B : Nat → Nat} {a : Int32} {x y : Nat} (hJ : gR false G l (gRm 4 89) b_X_countWith 8 J) (hret : ∀ (pc : Nat) (lv : List (Nat × Value)) (v : Int32) (iv2 : Nat → Int32) (av2 : Nat → Nat → Int32), decode b_X_countWith pc = .ok (.ireturn, 1) → narrow .int (.int v) = .int v → post v (iv2, av2) → J pc lv [.int v] iv2 av2) (hV1 : RVal n (vX av1)) (hC : CPd n S T B iv1 av1) (hxy : x ≤ y) (hy : y < 32) (hp : ∀ v, v = nI (cnt (fun k => decide (vdt (vX av1) n (iv1 26) k = a)) (y + 1 - x) x) → post v (iv1, av1)) :
    ∀ (d s t : Nat), s + d = S → t = cnt (fun k => decide (vdt (vX av1) n (iv1 26) k = a)) (min (y + 1) (B s) - x) x → J 44 [(0, .ref G.1), (1, .int a), (2, .int (nI x)), (3, .int (nI y)), (4, .int (nI t)), (5, .int (nI s))] [] iv1 av1 := by
  have hC0 := hC
  obtain ⟨hNC, h27, h9, h28, h10, hST, hT, hCh, hTr⟩ := hC0
  have hS32 := hST.1
  have hB := st_lt hST
  have hn12 := hV1.1
  intro d
  induction d with
  | zero =>
    intro s t hs hc
    have es : s = S := by omega
    subst es
    refine g_iload hJ d_X_countWith_44 rfl ?_
    refine g_gi hJ fl_X_28 rfl d_X_countWith_46 d_X_countWith_47 rfl ?_
    refine g_top (h28) ?_
    refine g_n_ge hJ (tgt := 144) d_X_countWith_50 (by decide) (by omega) (by omega) (fun _ => ?_) (fun q => absurd q (by omega))
    refine g_iload hJ d_X_countWith_144 rfl ?_
    exact hret _ _ _ _ _ d_X_countWith_146 rfl (hp _ (by rw [hc, hST.2.2.1, Nat.min_eq_left (by omega)]))
  | succ d ih =>
    intro s t hs hc
    obtain ⟨hB1, hB2⟩ := hB s (by omega)
    have hBs := hST.2.2.2.1 s (by omega)
    have ht32 : t ≤ 33 := by rw [hc]; exact Nat.le_trans (cnt_le _ _ _) (by omega)
    have hst : ∀ j, B s ≤ j → j < B (s + 1) → (fun k => decide (vdt (vX av1) n (iv1 26) k = a)) j = (fun k => decide (vdt (vX av1) n (iv1 26) k = a)) (B s) := fun j h1 h2 => by
      dsimp only
      rw [vdt_cg (hST.2.2.2.2.1 s (by omega) j h1 h2)]
    refine g_iload hJ d_X_countWith_44 rfl ?_
    refine g_gi hJ fl_X_28 rfl d_X_countWith_46 d_X_countWith_47 rfl ?_
    refine g_top (h28) ?_
    refine g_n_ge hJ (tgt := 144) d_X_countWith_50 (by decide) (by omega) (by omega) (fun q => absurd q (by omega)) (fun _ => ?_)
    refine g_ga hJ fl_X_10 (n := 33) rfl d_X_countWith_53 d_X_countWith_54 rfl ?_
    refine g_iload hJ d_X_countWith_57 rfl ?_
    refine g_iald hJ (k := 10) (n := 33) rfl (by decide) (by omega) d_X_countWith_59 ?_
    refine g_top (h10 s (by omega)) ?_
    refine g_iload_n hJ d_X_countWith_60 rfl ?_
    refine g_n_le hJ (tgt := 74) d_X_countWith_61 (by decide) (by omega) (by omega) (fun cf => ?_) (fun cf => ?_)
    · refine g_iload_n hJ d_X_countWith_74 rfl ?_
      refine g_istore hJ (lv2 := [(0, .ref G.1), (1, .int a), (2, .int (nI x)), (3, .int (nI y)), (4, .int (nI t)), (5, .int (nI s)), (6, .int (nI x))]) d_X_countWith_75 (by decide) rfl rfl ?_
      refine g_ga hJ fl_X_10 (n := 33) rfl d_X_countWith_77 d_X_countWith_78 rfl ?_
      refine g_iload hJ d_X_countWith_81 rfl ?_
      refine g_iconst hJ (v := nI 1) d_X_countWith_83 (by decide) ?_
      refine g_iaddn hJ d_X_countWith_84 ?_
      refine g_iald hJ (k := 10) (n := 33) rfl (by decide) (by omega) d_X_countWith_85 ?_
      refine g_top (h10 (s + 1) (by omega)) ?_
      refine g_iconst hJ (v := nI 1) d_X_countWith_86 (by decide) ?_
      refine g_isubn hJ d_X_countWith_87 (by omega) ?_
      refine g_iload_n hJ d_X_countWith_88 rfl ?_
      refine g_n_ge hJ (tgt := 106) d_X_countWith_89 (by decide) (by omega) (by omega) (fun cg => ?_) (fun cg => ?_)
      · refine g_iload_n hJ d_X_countWith_106 rfl ?_
        refine g_istore hJ (lv2 := [(0, .ref G.1), (1, .int a), (2, .int (nI x)), (3, .int (nI y)), (4, .int (nI t)), (5, .int (nI s)), (6, .int (nI x)), (7, .int (nI y))]) d_X_countWith_107 (by decide) rfl rfl ?_
        refine g_iload hJ d_X_countWith_109 rfl ?_
        refine g_iload hJ d_X_countWith_111 rfl ?_
        refine g_n_gt hJ (tgt := 138) d_X_countWith_113 (by decide) (by omega) (by omega) (fun co => ?_) (fun co => ?_)
        · refine g_inc hJ (lv2 := [(0, .ref G.1), (1, .int a), (2, .int (nI x)), (3, .int (nI y)), (4, .int (nI t)), (5, .int (nI (s + 1))), (6, .int (nI x)), (7, .int (nI y))]) d_X_countWith_138 rfl (by decide) rfl rfl ?_
          refine g_goto hJ (tgt := 44) d_X_countWith_141 (by decide) ?_
          refine g_drop hJ (lv2 := [(0, .ref G.1), (1, .int a), (2, .int (nI x)), (3, .int (nI y)), (4, .int (nI t)), (5, .int (nI (s + 1)))]) (ex := [(6, .int (nI x)), (7, .int (nI y))]) rfl ?_
          exact ih (s + 1) t (by omega) (by rw [hc]; exact (cw_out hxy hBs (Or.inr ⟨rfl, cf⟩) (Or.inr ⟨rfl, cg⟩) co).symm)
        · refine g_aload_n hJ d_X_countWith_116 rfl ?_
          refine g_iload hJ d_X_countWith_117 rfl ?_
          refine g_call hJ k_X_X_verdict (c_X_vd G l iv1 av1 n S T B hV1 hC s (by omega)) (by decide) (by decide) rfl (rest := []) rfl (Nat.le_of_ble_eq_true rfl) d_X_countWith_119 (fun r u hu => ?_)
          obtain ⟨rfl, rfl⟩ := hu
          dsimp only
          refine g_iload_n hJ d_X_countWith_122 rfl ?_
          refine g_icmp_ne hJ (tgt := 138) d_X_countWith_123 (by decide) (fun cv => ?_) (fun cv => ?_)
          · refine g_inc hJ (lv2 := [(0, .ref G.1), (1, .int a), (2, .int (nI x)), (3, .int (nI y)), (4, .int (nI t)), (5, .int (nI (s + 1))), (6, .int (nI x)), (7, .int (nI y))]) d_X_countWith_138 rfl (by decide) rfl rfl ?_
            refine g_goto hJ (tgt := 44) d_X_countWith_141 (by decide) ?_
            refine g_drop hJ (lv2 := [(0, .ref G.1), (1, .int a), (2, .int (nI x)), (3, .int (nI y)), (4, .int (nI t)), (5, .int (nI (s + 1)))]) (ex := [(6, .int (nI x)), (7, .int (nI y))]) rfl ?_
            exact ih (s + 1) t (by omega) (by rw [hc]; exact (cw_no hxy hBs (Or.inr ⟨rfl, cf⟩) (Or.inr ⟨rfl, cg⟩) co hst (decide_eq_false cv)).symm)
          · refine g_iload hJ d_X_countWith_126 rfl ?_
            refine g_iload hJ d_X_countWith_128 rfl ?_
            refine g_iload hJ d_X_countWith_130 rfl ?_
            refine g_isubn hJ d_X_countWith_132 (by omega) ?_
            refine g_iconst hJ (v := nI 1) d_X_countWith_133 (by decide) ?_
            refine g_iaddn hJ d_X_countWith_134 ?_
            refine g_iaddn hJ d_X_countWith_135 ?_
            refine g_istore hJ (lv2 := [(0, .ref G.1), (1, .int a), (2, .int (nI x)), (3, .int (nI y)), (4, .int (nI (t + (y - x + 1)))), (5, .int (nI s)), (6, .int (nI x)), (7, .int (nI y))]) d_X_countWith_136 (by decide) rfl rfl ?_
            refine g_inc hJ (lv2 := [(0, .ref G.1), (1, .int a), (2, .int (nI x)), (3, .int (nI y)), (4, .int (nI (t + (y - x + 1)))), (5, .int (nI (s + 1))), (6, .int (nI x)), (7, .int (nI y))]) d_X_countWith_138 rfl (by decide) rfl rfl ?_
            refine g_goto hJ (tgt := 44) d_X_countWith_141 (by decide) ?_
            refine g_drop hJ (lv2 := [(0, .ref G.1), (1, .int a), (2, .int (nI x)), (3, .int (nI y)), (4, .int (nI (t + (y - x + 1)))), (5, .int (nI (s + 1)))]) (ex := [(6, .int (nI x)), (7, .int (nI y))]) rfl ?_
            exact ih (s + 1) _ (by omega) (by rw [hc]; exact (cw_yes hxy hBs (Or.inr ⟨rfl, cf⟩) (Or.inr ⟨rfl, cg⟩) co hst (decide_eq_true cv)).symm)
      · refine g_ga hJ fl_X_10 (n := 33) rfl d_X_countWith_92 d_X_countWith_93 rfl ?_
        refine g_iload hJ d_X_countWith_96 rfl ?_
        refine g_iconst hJ (v := nI 1) d_X_countWith_98 (by decide) ?_
        refine g_iaddn hJ d_X_countWith_99 ?_
        refine g_iald hJ (k := 10) (n := 33) rfl (by decide) (by omega) d_X_countWith_100 ?_
        refine g_top (h10 (s + 1) (by omega)) ?_
        refine g_iconst hJ (v := nI 1) d_X_countWith_101 (by decide) ?_
        refine g_isubn hJ d_X_countWith_102 (by omega) ?_
        refine g_goto hJ (tgt := 107) d_X_countWith_103 (by decide) ?_
        refine g_istore hJ (lv2 := [(0, .ref G.1), (1, .int a), (2, .int (nI x)), (3, .int (nI y)), (4, .int (nI t)), (5, .int (nI s)), (6, .int (nI x)), (7, .int (nI (B (s + 1) - 1)))]) d_X_countWith_107 (by decide) rfl rfl ?_
        refine g_iload hJ d_X_countWith_109 rfl ?_
        refine g_iload hJ d_X_countWith_111 rfl ?_
        refine g_n_gt hJ (tgt := 138) d_X_countWith_113 (by decide) (by omega) (by omega) (fun co => ?_) (fun co => ?_)
        · refine g_inc hJ (lv2 := [(0, .ref G.1), (1, .int a), (2, .int (nI x)), (3, .int (nI y)), (4, .int (nI t)), (5, .int (nI (s + 1))), (6, .int (nI x)), (7, .int (nI (B (s + 1) - 1)))]) d_X_countWith_138 rfl (by decide) rfl rfl ?_
          refine g_goto hJ (tgt := 44) d_X_countWith_141 (by decide) ?_
          refine g_drop hJ (lv2 := [(0, .ref G.1), (1, .int a), (2, .int (nI x)), (3, .int (nI y)), (4, .int (nI t)), (5, .int (nI (s + 1)))]) (ex := [(6, .int (nI x)), (7, .int (nI (B (s + 1) - 1)))]) rfl ?_
          exact ih (s + 1) t (by omega) (by rw [hc]; exact (cw_out hxy hBs (Or.inr ⟨rfl, cf⟩) (Or.inl ⟨rfl, cg⟩) co).symm)
        · refine g_aload_n hJ d_X_countWith_116 rfl ?_
          refine g_iload hJ d_X_countWith_117 rfl ?_
          refine g_call hJ k_X_X_verdict (c_X_vd G l iv1 av1 n S T B hV1 hC s (by omega)) (by decide) (by decide) rfl (rest := []) rfl (Nat.le_of_ble_eq_true rfl) d_X_countWith_119 (fun r u hu => ?_)
          obtain ⟨rfl, rfl⟩ := hu
          dsimp only
          refine g_iload_n hJ d_X_countWith_122 rfl ?_
          refine g_icmp_ne hJ (tgt := 138) d_X_countWith_123 (by decide) (fun cv => ?_) (fun cv => ?_)
          · refine g_inc hJ (lv2 := [(0, .ref G.1), (1, .int a), (2, .int (nI x)), (3, .int (nI y)), (4, .int (nI t)), (5, .int (nI (s + 1))), (6, .int (nI x)), (7, .int (nI (B (s + 1) - 1)))]) d_X_countWith_138 rfl (by decide) rfl rfl ?_
            refine g_goto hJ (tgt := 44) d_X_countWith_141 (by decide) ?_
            refine g_drop hJ (lv2 := [(0, .ref G.1), (1, .int a), (2, .int (nI x)), (3, .int (nI y)), (4, .int (nI t)), (5, .int (nI (s + 1)))]) (ex := [(6, .int (nI x)), (7, .int (nI (B (s + 1) - 1)))]) rfl ?_
            exact ih (s + 1) t (by omega) (by rw [hc]; exact (cw_no hxy hBs (Or.inr ⟨rfl, cf⟩) (Or.inl ⟨rfl, cg⟩) co hst (decide_eq_false cv)).symm)
          · refine g_iload hJ d_X_countWith_126 rfl ?_
            refine g_iload hJ d_X_countWith_128 rfl ?_
            refine g_iload hJ d_X_countWith_130 rfl ?_
            refine g_isubn hJ d_X_countWith_132 (by omega) ?_
            refine g_iconst hJ (v := nI 1) d_X_countWith_133 (by decide) ?_
            refine g_iaddn hJ d_X_countWith_134 ?_
            refine g_iaddn hJ d_X_countWith_135 ?_
            refine g_istore hJ (lv2 := [(0, .ref G.1), (1, .int a), (2, .int (nI x)), (3, .int (nI y)), (4, .int (nI (t + (B (s + 1) - 1 - x + 1)))), (5, .int (nI s)), (6, .int (nI x)), (7, .int (nI (B (s + 1) - 1)))]) d_X_countWith_136 (by decide) rfl rfl ?_
            refine g_inc hJ (lv2 := [(0, .ref G.1), (1, .int a), (2, .int (nI x)), (3, .int (nI y)), (4, .int (nI (t + (B (s + 1) - 1 - x + 1)))), (5, .int (nI (s + 1))), (6, .int (nI x)), (7, .int (nI (B (s + 1) - 1)))]) d_X_countWith_138 rfl (by decide) rfl rfl ?_
            refine g_goto hJ (tgt := 44) d_X_countWith_141 (by decide) ?_
            refine g_drop hJ (lv2 := [(0, .ref G.1), (1, .int a), (2, .int (nI x)), (3, .int (nI y)), (4, .int (nI (t + (B (s + 1) - 1 - x + 1)))), (5, .int (nI (s + 1)))]) (ex := [(6, .int (nI x)), (7, .int (nI (B (s + 1) - 1)))]) rfl ?_
            exact ih (s + 1) _ (by omega) (by rw [hc]; exact (cw_yes hxy hBs (Or.inr ⟨rfl, cf⟩) (Or.inl ⟨rfl, cg⟩) co hst (decide_eq_true cv)).symm)
    · refine g_ga hJ fl_X_10 (n := 33) rfl d_X_countWith_64 d_X_countWith_65 rfl ?_
      refine g_iload hJ d_X_countWith_68 rfl ?_
      refine g_iald hJ (k := 10) (n := 33) rfl (by decide) (by omega) d_X_countWith_70 ?_
      refine g_top (h10 s (by omega)) ?_
      refine g_goto hJ (tgt := 75) d_X_countWith_71 (by decide) ?_
      refine g_istore hJ (lv2 := [(0, .ref G.1), (1, .int a), (2, .int (nI x)), (3, .int (nI y)), (4, .int (nI t)), (5, .int (nI s)), (6, .int (nI (B s)))]) d_X_countWith_75 (by decide) rfl rfl ?_
      refine g_ga hJ fl_X_10 (n := 33) rfl d_X_countWith_77 d_X_countWith_78 rfl ?_
      refine g_iload hJ d_X_countWith_81 rfl ?_
      refine g_iconst hJ (v := nI 1) d_X_countWith_83 (by decide) ?_
      refine g_iaddn hJ d_X_countWith_84 ?_
      refine g_iald hJ (k := 10) (n := 33) rfl (by decide) (by omega) d_X_countWith_85 ?_
      refine g_top (h10 (s + 1) (by omega)) ?_
      refine g_iconst hJ (v := nI 1) d_X_countWith_86 (by decide) ?_
      refine g_isubn hJ d_X_countWith_87 (by omega) ?_
      refine g_iload_n hJ d_X_countWith_88 rfl ?_
      refine g_n_ge hJ (tgt := 106) d_X_countWith_89 (by decide) (by omega) (by omega) (fun cg => ?_) (fun cg => ?_)
      · refine g_iload_n hJ d_X_countWith_106 rfl ?_
        refine g_istore hJ (lv2 := [(0, .ref G.1), (1, .int a), (2, .int (nI x)), (3, .int (nI y)), (4, .int (nI t)), (5, .int (nI s)), (6, .int (nI (B s))), (7, .int (nI y))]) d_X_countWith_107 (by decide) rfl rfl ?_
        refine g_iload hJ d_X_countWith_109 rfl ?_
        refine g_iload hJ d_X_countWith_111 rfl ?_
        refine g_n_gt hJ (tgt := 138) d_X_countWith_113 (by decide) (by omega) (by omega) (fun co => ?_) (fun co => ?_)
        · refine g_inc hJ (lv2 := [(0, .ref G.1), (1, .int a), (2, .int (nI x)), (3, .int (nI y)), (4, .int (nI t)), (5, .int (nI (s + 1))), (6, .int (nI (B s))), (7, .int (nI y))]) d_X_countWith_138 rfl (by decide) rfl rfl ?_
          refine g_goto hJ (tgt := 44) d_X_countWith_141 (by decide) ?_
          refine g_drop hJ (lv2 := [(0, .ref G.1), (1, .int a), (2, .int (nI x)), (3, .int (nI y)), (4, .int (nI t)), (5, .int (nI (s + 1)))]) (ex := [(6, .int (nI (B s))), (7, .int (nI y))]) rfl ?_
          exact ih (s + 1) t (by omega) (by rw [hc]; exact (cw_out hxy hBs (Or.inl ⟨rfl, cf⟩) (Or.inr ⟨rfl, cg⟩) co).symm)
        · refine g_aload_n hJ d_X_countWith_116 rfl ?_
          refine g_iload hJ d_X_countWith_117 rfl ?_
          refine g_call hJ k_X_X_verdict (c_X_vd G l iv1 av1 n S T B hV1 hC s (by omega)) (by decide) (by decide) rfl (rest := []) rfl (Nat.le_of_ble_eq_true rfl) d_X_countWith_119 (fun r u hu => ?_)
          obtain ⟨rfl, rfl⟩ := hu
          dsimp only
          refine g_iload_n hJ d_X_countWith_122 rfl ?_
          refine g_icmp_ne hJ (tgt := 138) d_X_countWith_123 (by decide) (fun cv => ?_) (fun cv => ?_)
          · refine g_inc hJ (lv2 := [(0, .ref G.1), (1, .int a), (2, .int (nI x)), (3, .int (nI y)), (4, .int (nI t)), (5, .int (nI (s + 1))), (6, .int (nI (B s))), (7, .int (nI y))]) d_X_countWith_138 rfl (by decide) rfl rfl ?_
            refine g_goto hJ (tgt := 44) d_X_countWith_141 (by decide) ?_
            refine g_drop hJ (lv2 := [(0, .ref G.1), (1, .int a), (2, .int (nI x)), (3, .int (nI y)), (4, .int (nI t)), (5, .int (nI (s + 1)))]) (ex := [(6, .int (nI (B s))), (7, .int (nI y))]) rfl ?_
            exact ih (s + 1) t (by omega) (by rw [hc]; exact (cw_no hxy hBs (Or.inl ⟨rfl, cf⟩) (Or.inr ⟨rfl, cg⟩) co hst (decide_eq_false cv)).symm)
          · refine g_iload hJ d_X_countWith_126 rfl ?_
            refine g_iload hJ d_X_countWith_128 rfl ?_
            refine g_iload hJ d_X_countWith_130 rfl ?_
            refine g_isubn hJ d_X_countWith_132 (by omega) ?_
            refine g_iconst hJ (v := nI 1) d_X_countWith_133 (by decide) ?_
            refine g_iaddn hJ d_X_countWith_134 ?_
            refine g_iaddn hJ d_X_countWith_135 ?_
            refine g_istore hJ (lv2 := [(0, .ref G.1), (1, .int a), (2, .int (nI x)), (3, .int (nI y)), (4, .int (nI (t + (y - (B s) + 1)))), (5, .int (nI s)), (6, .int (nI (B s))), (7, .int (nI y))]) d_X_countWith_136 (by decide) rfl rfl ?_
            refine g_inc hJ (lv2 := [(0, .ref G.1), (1, .int a), (2, .int (nI x)), (3, .int (nI y)), (4, .int (nI (t + (y - (B s) + 1)))), (5, .int (nI (s + 1))), (6, .int (nI (B s))), (7, .int (nI y))]) d_X_countWith_138 rfl (by decide) rfl rfl ?_
            refine g_goto hJ (tgt := 44) d_X_countWith_141 (by decide) ?_
            refine g_drop hJ (lv2 := [(0, .ref G.1), (1, .int a), (2, .int (nI x)), (3, .int (nI y)), (4, .int (nI (t + (y - (B s) + 1)))), (5, .int (nI (s + 1)))]) (ex := [(6, .int (nI (B s))), (7, .int (nI y))]) rfl ?_
            exact ih (s + 1) _ (by omega) (by rw [hc]; exact (cw_yes hxy hBs (Or.inl ⟨rfl, cf⟩) (Or.inr ⟨rfl, cg⟩) co hst (decide_eq_true cv)).symm)
      · refine g_ga hJ fl_X_10 (n := 33) rfl d_X_countWith_92 d_X_countWith_93 rfl ?_
        refine g_iload hJ d_X_countWith_96 rfl ?_
        refine g_iconst hJ (v := nI 1) d_X_countWith_98 (by decide) ?_
        refine g_iaddn hJ d_X_countWith_99 ?_
        refine g_iald hJ (k := 10) (n := 33) rfl (by decide) (by omega) d_X_countWith_100 ?_
        refine g_top (h10 (s + 1) (by omega)) ?_
        refine g_iconst hJ (v := nI 1) d_X_countWith_101 (by decide) ?_
        refine g_isubn hJ d_X_countWith_102 (by omega) ?_
        refine g_goto hJ (tgt := 107) d_X_countWith_103 (by decide) ?_
        refine g_istore hJ (lv2 := [(0, .ref G.1), (1, .int a), (2, .int (nI x)), (3, .int (nI y)), (4, .int (nI t)), (5, .int (nI s)), (6, .int (nI (B s))), (7, .int (nI (B (s + 1) - 1)))]) d_X_countWith_107 (by decide) rfl rfl ?_
        refine g_iload hJ d_X_countWith_109 rfl ?_
        refine g_iload hJ d_X_countWith_111 rfl ?_
        refine g_n_gt hJ (tgt := 138) d_X_countWith_113 (by decide) (by omega) (by omega) (fun co => ?_) (fun co => ?_)
        · refine g_inc hJ (lv2 := [(0, .ref G.1), (1, .int a), (2, .int (nI x)), (3, .int (nI y)), (4, .int (nI t)), (5, .int (nI (s + 1))), (6, .int (nI (B s))), (7, .int (nI (B (s + 1) - 1)))]) d_X_countWith_138 rfl (by decide) rfl rfl ?_
          refine g_goto hJ (tgt := 44) d_X_countWith_141 (by decide) ?_
          refine g_drop hJ (lv2 := [(0, .ref G.1), (1, .int a), (2, .int (nI x)), (3, .int (nI y)), (4, .int (nI t)), (5, .int (nI (s + 1)))]) (ex := [(6, .int (nI (B s))), (7, .int (nI (B (s + 1) - 1)))]) rfl ?_
          exact ih (s + 1) t (by omega) (by rw [hc]; exact (cw_out hxy hBs (Or.inl ⟨rfl, cf⟩) (Or.inl ⟨rfl, cg⟩) co).symm)
        · refine g_aload_n hJ d_X_countWith_116 rfl ?_
          refine g_iload hJ d_X_countWith_117 rfl ?_
          refine g_call hJ k_X_X_verdict (c_X_vd G l iv1 av1 n S T B hV1 hC s (by omega)) (by decide) (by decide) rfl (rest := []) rfl (Nat.le_of_ble_eq_true rfl) d_X_countWith_119 (fun r u hu => ?_)
          obtain ⟨rfl, rfl⟩ := hu
          dsimp only
          refine g_iload_n hJ d_X_countWith_122 rfl ?_
          refine g_icmp_ne hJ (tgt := 138) d_X_countWith_123 (by decide) (fun cv => ?_) (fun cv => ?_)
          · refine g_inc hJ (lv2 := [(0, .ref G.1), (1, .int a), (2, .int (nI x)), (3, .int (nI y)), (4, .int (nI t)), (5, .int (nI (s + 1))), (6, .int (nI (B s))), (7, .int (nI (B (s + 1) - 1)))]) d_X_countWith_138 rfl (by decide) rfl rfl ?_
            refine g_goto hJ (tgt := 44) d_X_countWith_141 (by decide) ?_
            refine g_drop hJ (lv2 := [(0, .ref G.1), (1, .int a), (2, .int (nI x)), (3, .int (nI y)), (4, .int (nI t)), (5, .int (nI (s + 1)))]) (ex := [(6, .int (nI (B s))), (7, .int (nI (B (s + 1) - 1)))]) rfl ?_
            exact ih (s + 1) t (by omega) (by rw [hc]; exact (cw_no hxy hBs (Or.inl ⟨rfl, cf⟩) (Or.inl ⟨rfl, cg⟩) co hst (decide_eq_false cv)).symm)
          · refine g_iload hJ d_X_countWith_126 rfl ?_
            refine g_iload hJ d_X_countWith_128 rfl ?_
            refine g_iload hJ d_X_countWith_130 rfl ?_
            refine g_isubn hJ d_X_countWith_132 (by omega) ?_
            refine g_iconst hJ (v := nI 1) d_X_countWith_133 (by decide) ?_
            refine g_iaddn hJ d_X_countWith_134 ?_
            refine g_iaddn hJ d_X_countWith_135 ?_
            refine g_istore hJ (lv2 := [(0, .ref G.1), (1, .int a), (2, .int (nI x)), (3, .int (nI y)), (4, .int (nI (t + (B (s + 1) - 1 - (B s) + 1)))), (5, .int (nI s)), (6, .int (nI (B s))), (7, .int (nI (B (s + 1) - 1)))]) d_X_countWith_136 (by decide) rfl rfl ?_
            refine g_inc hJ (lv2 := [(0, .ref G.1), (1, .int a), (2, .int (nI x)), (3, .int (nI y)), (4, .int (nI (t + (B (s + 1) - 1 - (B s) + 1)))), (5, .int (nI (s + 1))), (6, .int (nI (B s))), (7, .int (nI (B (s + 1) - 1)))]) d_X_countWith_138 rfl (by decide) rfl rfl ?_
            refine g_goto hJ (tgt := 44) d_X_countWith_141 (by decide) ?_
            refine g_drop hJ (lv2 := [(0, .ref G.1), (1, .int a), (2, .int (nI x)), (3, .int (nI y)), (4, .int (nI (t + (B (s + 1) - 1 - (B s) + 1)))), (5, .int (nI (s + 1)))]) (ex := [(6, .int (nI (B s))), (7, .int (nI (B (s + 1) - 1)))]) rfl ?_
            exact ih (s + 1) _ (by omega) (by rw [hc]; exact (cw_yes hxy hBs (Or.inl ⟨rfl, cf⟩) (Or.inl ⟨rfl, cg⟩) co hst (decide_eq_true cv)).symm)
set_option maxHeartbeats 4000000 in
set_option maxRecDepth 100000 in
theorem c_X_countWith (G : gG) (l : Launch) (iv : Nat → Int32) (av : Nat → Nat → Int32) (n : Nat) (hn : iv 25 = nI n) (hV : RVal n (vX av)) (hXC : XC n iv av) (a x y : Int32) : gM false G l y_X_countWith b_X_countWith 8 (gRm 4 89) .int [.int a, .int x, .int y] iv av (fun r u => r = q_count (vX av) n (iv 26) a x y ∧ XQ n iv av u) := by
  refine g_met rfl (Nat.le_of_ble_eq_true rfl) (fun J hJ hret => ?_)
  refine g_lv (lv2 := [(0, .ref G.1), (1, .int a), (2, .int x), (3, .int y)]) rfl ?_
  refine g_iload_n hJ d_X_countWith_0 rfl ?_
  refine g_calls hJ k_X_X_isNumber (c_X_isNumber l x) (by decide) (by decide) rfl rfl (Nat.le_of_ble_eq_true rfl) d_X_countWith_1 ?_
  refine g_beq hJ (tgt := 14) d_X_countWith_4 (by decide) (fun c1 => ?_) (fun c1 => ?_)
  · refine g_iconst hJ (v := -1) d_X_countWith_14 (by decide) ?_
    exact hret _ _ _ _ _ d_X_countWith_15 rfl (⟨by unfold q_count; rw [c1]; rfl, SmX.rf, hXC⟩)
  · obtain ⟨k, hk, hk31, rfl⟩ := inB_of c1
    refine g_iload_n hJ d_X_countWith_7 rfl ?_
    refine g_calls hJ k_X_X_isNumber (c_X_isNumber l y) (by decide) (by decide) rfl rfl (Nat.le_of_ble_eq_true rfl) d_X_countWith_8 ?_
    refine g_bne hJ (tgt := 16) d_X_countWith_11 (by decide) (fun c2 => ?_) (fun c2 => ?_)
    · obtain ⟨j, hj, hj31, rfl⟩ := inB_of c2
      refine g_iload_n hJ d_X_countWith_16 rfl ?_
      refine g_iload_n hJ d_X_countWith_17 rfl ?_
      refine g_n_le hJ (tgt := 24) d_X_countWith_18 (by decide) (by omega) (by omega) (fun c3 => ?_) (fun c3 => ?_)
      · refine g_iload_n hJ d_X_countWith_24 rfl ?_
        refine g_calls hJ k_X_X_isAction (c_X_isAction l a) (by decide) (by decide) rfl rfl (Nat.le_of_ble_eq_true rfl) d_X_countWith_25 ?_
        refine g_bne hJ (tgt := 34) d_X_countWith_28 (by decide) (fun c4 => ?_) (fun c4 => ?_)
        · refine g_aload_n hJ d_X_countWith_34 rfl ?_
          refine g_callv hJ k_X_X_compile (c_X_compile G l iv av n hn hV hXC) (by decide) (by decide) rfl (rest := []) rfl (Nat.le_of_ble_eq_true rfl) d_X_countWith_35 (fun u hu => ?_)
          obtain ⟨iv1, av1⟩ := u
          obtain ⟨hSm, h30, S, T, B, hC⟩ := hu
          dsimp only at h30 hC ⊢
          have hQ : XQ n iv av (iv1, av1) := ⟨hSm, Or.inr ⟨h30, S, T, B, hC⟩⟩
          have eV : vX av1 = vX av := vX_cg (fun k hk => hSm.2 k (by omega))
          have e26 : iv1 26 = iv 26 := hSm.1 26 (by decide)
          have hn1 : iv1 25 = nI n := (hSm.1 25 (by decide)).trans hn
          have hV1 : RVal n (vX av1) := by rw [eV]; exact hV
          have hC0 := hC
          obtain ⟨hNC, h27, h9, h28, h10, hST, hT, hCh, hTr⟩ := hC0
          have hS32 := hST.1
          have hB := st_lt hST
          refine g_iconst hJ (v := nI 0) d_X_countWith_38 (by decide) ?_
          refine g_istore hJ (lv2 := [(0, .ref G.1), (1, .int a), (2, .int (nI k)), (3, .int (nI j)), (4, .int (nI 0))]) d_X_countWith_39 (by decide) rfl rfl ?_
          refine g_iconst hJ (v := nI 0) d_X_countWith_41 (by decide) ?_
          refine g_istore hJ (lv2 := [(0, .ref G.1), (1, .int a), (2, .int (nI k)), (3, .int (nI j)), (4, .int (nI 0)), (5, .int (nI 0))]) d_X_countWith_42 (by decide) rfl rfl ?_
          exact l_X_countWith (post := fun r u => r = q_count (vX av) n (iv 26) a (nI k) (nI j) ∧ XQ n iv av u) hJ hret hV1 hC c3 hj (fun v hv => ⟨by unfold q_count; rw [c1, c2, Bool.and_self, if_pos rfl, if_neg (nI_nlt c3 hj31), c4, if_pos rfl, ix_nI hk31, ix_nI hj31, ← eV, ← e26]; exact hv, hQ⟩) S 0 0 (by omega) (by rw [(hST.2.1 (by decide)).2, Nat.min_eq_right (Nat.zero_le _), Nat.zero_sub]; rfl)
        · refine g_bipush hJ (v := -3) d_X_countWith_31 (by decide) ?_
          exact hret _ _ _ _ _ d_X_countWith_33 rfl (⟨by unfold q_count; rw [c1, c2, Bool.and_self, if_pos rfl, if_neg (nI_nlt c3 hj31), c4]; rfl, SmX.rf, hXC⟩)
      · refine g_bipush hJ (v := -2) d_X_countWith_21 (by decide) ?_
        exact hret _ _ _ _ _ d_X_countWith_23 rfl (⟨by unfold q_count; rw [c1, c2, Bool.and_self, if_pos rfl, if_pos (nI_lt c3 hk31)], SmX.rf, hXC⟩)
    · refine g_iconst hJ (v := -1) d_X_countWith_14 (by decide) ?_
      exact hret _ _ _ _ _ d_X_countWith_15 rfl (⟨by unfold q_count; rw [c2, Bool.and_false]; rfl, SmX.rf, hXC⟩)
end
section
-- both sides answer alike (no program in sight)
def VE (n : Nat) (V V2 : Nat → Nat → Int32) : Prop := (∀ r, r < n → ∀ t, ru V r t = ru V2 r t) ∧ (∀ j, j < 2 → V 6 j = V2 6 j)
/-- a rule as it must be -/
def RO (f : Nat → Int32) : Prop := (∃ a b, a < 32 ∧ b < 32 ∧ f 0 = nI a ∧ f 1 = nI b) ∧ (∃ w, w < 16 ∧ w % 8 ≠ 7 ∧ f 3 = nI w) ∧ (∃ w, w < 16 ∧ w % 8 ≠ 7 ∧ f 4 = nI w)
theorem rv_of {n : Nat} {V : Nat → Nat → Int32} (hn : n ≤ 12) (h : ∀ r, r < n → RO (ru V r)) : RVal n V := by
  refine ⟨hn, fun r hr => (h r hr).1, fun c hc => ?_⟩
  rcases (show c = 2 * (c / 2) ∨ c = 2 * (c / 2) + 1 by omega) with e | e
  · rw [e]; exact (h (c / 2) (by omega)).2.1
  · rw [e]; exact (h (c / 2) (by omega)).2.2
theorem ve_c {n : Nat} {V V2 : Nat → Nat → Int32} (h : VE n V V2) {c : Nat} (hc : c < 2 * n) : V 2 c = V2 2 c ∧ V 3 c = V2 3 c ∧ V 4 c = V2 4 c := by
  rcases (show c = 2 * (c / 2) ∨ c = 2 * (c / 2) + 1 by omega) with e | e
  · rw [e]; exact ⟨h.1 (c / 2) (by omega) 3, h.1 (c / 2) (by omega) 5, h.1 (c / 2) (by omega) 7⟩
  · rw [e]; exact ⟨h.1 (c / 2) (by omega) 4, h.1 (c / 2) (by omega) 6, h.1 (c / 2) (by omega) 8⟩
section VEs
variable {n : Nat} {V V2 : Nat → Nat → Int32}
theorem ve_has (h : VE n V V2) {r k : Nat} (hr : r < n) : has V r k = has V2 r k := by
  have e0 : V 0 r = V2 0 r := h.1 r hr 0
  have e1 : V 1 r = V2 1 r := h.1 r hr 1
  unfold has
  rw [e0, e1]
theorem ve_wN (h : VE n V V2) {c : Nat} (hc : c < 2 * n) : wN V c = wN V2 c := by
  unfold wN
  rw [(ve_c h hc).1]
theorem ve_met (h : VE n V V2) (hV : RVal n V) {c : Nat} (hc : c < 2 * n) : met V c = met V2 c := by
  obtain ⟨w, hw, -, e⟩ := hV.2.2 c hc
  have eN := wN_of e hw
  unfold met
  rw [← ve_wN h hc, (ve_c h hc).2.1, (ve_c h hc).2.2, eN, h.2 (w / 8) (by omega)]
theorem ve_hold (h : VE n V V2) (hV : RVal n V) {r : Nat} (hr : r < n) : hold V r = hold V2 r := by
  unfold hold
  rw [ve_met h hV (show 2 * r < 2 * n by omega), ve_met h hV (show 2 * r + 1 < 2 * n by omega)]
theorem ve_mt (h : VE n V V2) (hV : RVal n V) {r k : Nat} (hr : r < n) : mt V k r = mt V2 k r := by
  unfold mt
  rw [ve_has h hr, ve_hold h hV hr]
theorem ve_lst (h : VE n V V2) (hV : RVal n V) (k : Nat) : lst (mt V k) n 0 = lst (mt V2 k) n 0 := lst_cg n 0 (fun j _ hj => ve_mt h hV (by omega))
theorem ve_vdt (h : VE n V V2) (hV : RVal n V) (o : Int32) (k : Nat) : vdt V n o k = vdt V2 n o k := by
  unfold vdt
  rw [← ve_lst h hV k]
  by_cases hl : lst (mt V k) n 0 < n
  · rw [if_pos hl, if_pos hl]
    exact h.1 _ hl 2
  · rw [if_neg hl, if_neg hl]
theorem ve_plV (h : VE n V V2) {r : Nat} (hr : r < n) : plV V r = plV V2 r := by
  unfold plV
  rw [ve_wN h (show 2 * r < 2 * n by omega), ve_wN h (show 2 * r + 1 < 2 * n by omega)]
theorem ve_shd (h : VE n V V2) {q k : Nat} (hq : q < n) : shd V q k = shd V2 q k := any_cg (fun j hj => by rw [ve_has h (show j < n by omega), ve_plV h (show j < n by omega)])
theorem ve_chg (h : VE n V V2) : chg V n = chg V2 n := funext (fun k => any_cg (fun r hr => by rw [ve_has h hr, ve_has h hr]))
theorem ve_decide (h : VE n V V2) (hV : RVal n V) (o x : Int32) : q_decide V n o x = q_decide V2 n o x := by
  unfold q_decide
  rw [ve_vdt h hV]
theorem ve_matched (h : VE n V V2) (hV : RVal n V) (x : Int32) : q_matched V n x = q_matched V2 n x := by
  unfold q_matched fmt
  rw [ve_lst h hV]
theorem ve_count (h : VE n V V2) (hV : RVal n V) (o a x y : Int32) : q_count V n o a x y = q_count V2 n o a x y := by
  unfold q_count
  rw [show vdt V n o = vdt V2 n o from funext (fun k => ve_vdt h hV o k)]
theorem ve_next (h : VE n V V2) (hV : RVal n V) (o a x : Int32) : q_next V n o a x = q_next V2 n o a x := by
  unfold q_next
  rw [show vdt V n o = vdt V2 n o from funext (fun k => ve_vdt h hV o k)]
theorem ve_matching (h : VE n V V2) (hV : RVal n V) (x : Int32) : q_matching V n x = q_matching V2 n x := by
  unfold q_matching
  rw [cnt_cg (q := mt V2 (ix x)) n 0 (fun j _ hj => ve_mt h hV (by omega))]
theorem ve_hidden (h : VE n V V2) (hV : RVal n V) (x : Int32) : q_hidden V n x = q_hidden V2 n x := by
  unfold q_hidden
  by_cases hx : inB n x = true
  · rw [if_pos hx, if_pos hx]
    obtain ⟨k, hk, hk31, rfl⟩ := inB_of hx
    rw [ix_nI hk31, any_cg (q := fun j => has V2 k j && !shd V2 k j) (fun j _ => by rw [ve_has h hk, ve_shd h hk])]
  · rw [if_neg hx, if_neg hx]
theorem ve_stretches (h : VE n V V2) : q_stretches V n = q_stretches V2 n := by
  unfold q_stretches
  rw [ve_chg h]
theorem ve_open (h : VE n V V2) : q_open V n = q_open V2 n := by
  unfold q_open
  rw [cnt_cg (q := fun k => !anyB (fun r => has V2 r k) n) 32 0 (fun k _ _ => by rw [any_cg (fun r hr => ve_has h hr)])]
end VEs
/-! the tables stay right when only actions, drafts, arguments, the fallback change -/
theorem hv_cg {V V2 : Nat → Nat → Int32} (h0 : V2 0 = V 0) (h1 : V2 1 = V 1) (n k : Nat) : hv V2 n k = hv V n k := bm_cg (fun r _ => by unfold has; rw [h0, h1])
theorem chg_cg {V V2 : Nat → Nat → Int32} (h0 : V2 0 = V 0) (h1 : V2 1 = V 1) (n : Nat) : chg V2 n = chg V n := funext (fun k => any_cg (fun r _ => by unfold has; rw [h0, h1]))
theorem plN_cg {V V2 : Nat → Nat → Int32} (h2 : V2 2 = V 2) (n : Nat) : plN V2 n = plN V n := bm_cg (fun r _ => by unfold plV wN; rw [h2])
theorem CPd_cg {n S T : Nat} {B : Nat → Nat} {iv iv2 : Nat → Int32} {av av2 : Nat → Nat → Int32} (ha : ∀ a, a < 19 → a ≠ 5 → av2 a = av a) (h27 : iv2 27 = iv 27) (h28 : iv2 28 = iv 28) (h : CPd n S T B iv av) : CPd n S T B iv2 av2 := by
  have e0 : vX av2 0 = vX av 0 := ha 0 (by decide) (by decide)
  have e1 : vX av2 1 = vX av 1 := ha 1 (by decide) (by decide)
  have e2 : vX av2 2 = vX av 2 := ha 2 (by decide) (by decide)
  have eh : ∀ k, hv (vX av2) n k = hv (vX av) n k := hv_cg e0 e1 n
  have ec := chg_cg e0 e1 n
  have ep := plN_cg e2 n
  obtain ⟨g1, g2, g3, g4, g5, g6, g7, g8, g9⟩ := h
  refine ⟨fun c hc => ?_, by rw [h27, ep]; exact g2, fun j hj => by rw [ha 9 (by decide) (by decide), eh]; exact g3 j hj, by rw [h28]; exact g4, fun s hs => by rw [ha 10 (by decide) (by decide)]; exact g5 s hs, ?_, g7, fun s hs => ?_, ?_⟩
  · obtain ⟨out, k1, k2⟩ := g1 c hc
    have e : wN (vX av2) c = wN (vX av) c := by unfold wN; rw [e2]
    exact ⟨out, by rw [ha 8 (by decide) (by decide)]; exact k1, by rw [e, ha 6 (by decide) (by decide), ha 7 (by decide) (by decide), ha 4 (by decide) (by decide)]; exact k2⟩
  · obtain ⟨k1, k2, k3, k4, k5, k6⟩ := g6
    exact ⟨k1, k2, k3, k4, fun s hs j hj1 hj2 => by rw [eh, eh]; exact k5 s hs j hj1 hj2, by rw [ec]; exact k6⟩
  · rw [eh, ep, ha 11 (by decide) (by decide)]
    exact Ch_ext (Nat.le_refl T) (fun t _ => ⟨by rw [ha 12 (by decide) (by decide)], by rw [ha 13 (by decide) (by decide)]⟩) _ _ (g8 s hs)
  · have key : ∀ d node lo hi, Tr av B d node lo hi → Tr av2 B d node lo hi := by
      intro d
      induction d with
      | zero =>
        intro node lo hi h
        obtain ⟨h1, h2, h3⟩ := h
        exact ⟨by rw [ha 14 (by decide) (by decide)]; exact h1, by rw [ha 15 (by decide) (by decide)]; exact h2, h3⟩
      | succ d ih =>
        intro node lo hi h
        rcases h with ⟨h1, h2, h3⟩ | ⟨mid, l, r, k1, k2, k3, k4, k5, k6, k7, k8, k9⟩
        · exact Or.inl ⟨by rw [ha 14 (by decide) (by decide)]; exact h1, by rw [ha 15 (by decide) (by decide)]; exact h2, h3⟩
        · exact Or.inr ⟨mid, l, r, k1, k2, k3, k4, by rw [ha 14 (by decide) (by decide)]; exact k5, by rw [ha 15 (by decide) (by decide)]; exact k6, by rw [ha 16 (by decide) (by decide)]; exact k7, ih _ _ _ k8, ih _ _ _ k9⟩
    exact key 5 0 0 S g9
theorem XC_cg {n : Nat} {iv iv2 : Nat → Int32} {av av2 : Nat → Nat → Int32} (ha : ∀ a, a < 19 → a ≠ 5 → av2 a = av a) (hi : ∀ a, 26 < a → iv2 a = iv a) (h : XC n iv av) : XC n iv2 av2 := by
  rcases h with h | ⟨h, S, T, B, hC⟩
  · exact Or.inl (by rw [hi 30 (by decide)]; exact h)
  · exact Or.inr ⟨by rw [hi 30 (by decide)]; exact h, S, T, B, CPd_cg ha (hi 27 (by decide)) (hi 28 (by decide)) hC⟩
/-! rules that move -/
section SH
variable {p : Nat → Nat} {f : (Nat → Nat → Int32) → Nat → Nat → Int32}
theorem sh_ru (hcp : ∀ av i j r t, f (cpG p av i j) r t = if r = j then f av i t else f av r t) (q : Nat) : ∀ (d : Nat) (av : Nat → Nat → Int32) (r t : Nat), f (shG p av q d) r t = if q < r ∧ r ≤ q + d then f av (r - 1) t else f av r t
  | 0, av, r, t => by
    rw [if_neg (by omega)]
    rfl
  | d + 1, av, r, t => by
    show f (shG p (cpG p av (q + d) (q + d + 1)) q d) r t = _
    rw [sh_ru hcp q d, hcp, hcp]
    by_cases h1 : q < r ∧ r ≤ q + d
    · rw [if_pos h1, if_neg (by omega), if_pos (by omega)]
    · rw [if_neg h1]
      by_cases h2 : r = q + d + 1
      · rw [if_pos h2, if_pos (by omega), h2, Nat.add_sub_cancel]
      · rw [if_neg h2, if_neg (by omega)]
theorem sd_ru (hcp : ∀ av i j r t, f (cpG p av i j) r t = if r = j then f av i t else f av r t) : ∀ (d q : Nat) (av : Nat → Nat → Int32) (r t : Nat), f (sdG p av q d) r t = if q ≤ r ∧ r < q + d then f av (r + 1) t else f av r t
  | 0, q, av, r, t => by
    rw [if_neg (by omega)]
    rfl
  | d + 1, q, av, r, t => by
    show f (sdG p (cpG p av (q + 1) q) (q + 1) d) r t = _
    rw [sd_ru hcp d, hcp, hcp]
    by_cases h1 : q + 1 ≤ r ∧ r < q + 1 + d
    · rw [if_pos h1, if_neg (by omega), if_pos (by omega)]
    · rw [if_neg h1]
      by_cases h2 : r = q
      · rw [if_pos h2, if_pos (by omega), h2]
      · rw [if_neg h2, if_neg (by omega)]
theorem sh_o (hp : ∀ t, t < 6 → p t ≤ 5) (q k : Nat) (hk : 5 < k) : ∀ (d : Nat) (av : Nat → Nat → Int32), shG p av q d k = av k
  | 0, _ => rfl
  | d + 1, av => by
    show shG p (cpG p av (q + d) (q + d + 1)) q d k = _
    rw [sh_o hp q k hk d, cpG_o p hp _ _ _ _ hk]
theorem sd_o (hp : ∀ t, t < 6 → p t ≤ 5) (k : Nat) (hk : 5 < k) : ∀ (d q : Nat) (av : Nat → Nat → Int32), sdG p av q d k = av k
  | 0, _, _ => rfl
  | d + 1, q, av => by
    show sdG p (cpG p av (q + 1) q) (q + 1) d k = _
    rw [sd_o hp k hk d, cpG_o p hp _ _ _ _ hk]
end SH
theorem shX_ru (q d : Nat) (av : Nat → Nat → Int32) (r t : Nat) : ru (vX (shG pX av q d)) r t = if q < r ∧ r ≤ q + d then ru (vX av) (r - 1) t else ru (vX av) r t := sh_ru (f := fun a => ru (vX a)) cpX_ru q d av r t
theorem shM_ru (q d : Nat) (av : Nat → Nat → Int32) (r t : Nat) : ru (vM (shG pM av q d)) r t = if q < r ∧ r ≤ q + d then ru (vM av) (r - 1) t else ru (vM av) r t := sh_ru (f := fun a => ru (vM a)) cpM_ru q d av r t
theorem sdX_ru (d q : Nat) (av : Nat → Nat → Int32) (r t : Nat) : ru (vX (sdG pX av q d)) r t = if q ≤ r ∧ r < q + d then ru (vX av) (r + 1) t else ru (vX av) r t := sd_ru (f := fun a => ru (vX a)) cpX_ru d q av r t
theorem sdM_ru (d q : Nat) (av : Nat → Nat → Int32) (r t : Nat) : ru (vM (sdG pM av q d)) r t = if q ≤ r ∧ r < q + d then ru (vM av) (r + 1) t else ru (vM av) r t := sd_ru (f := fun a => ru (vM a)) cpM_ru d q av r t
theorem pX_le : ∀ t, t < 6 → pX t ≤ 5 := by decide
theorem pM_le : ∀ t, t < 6 → pM t ≤ 5 := by decide
/-- the draft -/
def dX (s : gS) (t : Nat) : Int32 := match t with
  | 0 => s.1 20
  | 1 => s.1 21
  | 2 => 0
  | 3 => s.2 22 0
  | 4 => s.2 22 1
  | 5 => s.2 23 0
  | 6 => s.2 23 1
  | 7 => s.2 24 0
  | _ => s.2 24 1
theorem df_ru (iv : Nat → Int32) (av : Nat → Nat → Int32) (q : Nat) (a : Int32) (r t : Nat) : ru (vX (dfG iv av q a)) r t = if r = q then (if t = 2 then a else dX (iv, av) t) else ru (vX av) r t := by
  unfold dfG
  match t with
  | 0 => simp [ru, vX, dX, up2_at]
  | 1 => simp [ru, vX, dX, up2_at]
  | 2 => simp [ru, vX, dX, up2_at]
  | 3 => simp [ru, vX, dX, up2_at, par1, par2, par3, par4]
  | 4 => simp [ru, vX, dX, up2_at, par1, par2, par3, par4]
  | 5 => simp [ru, vX, dX, up2_at, par1, par2, par3, par4]
  | 6 => simp [ru, vX, dX, up2_at, par1, par2, par3, par4]
  | 7 => simp [ru, vX, dX, up2_at, par1, par2, par3, par4]
  | t + 8 => simp [ru, vX, dX, up2_at, par1, par2, par3, par4]
theorem df_o (iv : Nat → Int32) (av : Nat → Nat → Int32) (q : Nat) (a : Int32) (k : Nat) (h : 5 < k) : dfG iv av q a k = av k := by
  unfold dfG
  repeat rw [up2_k (by omega)]
/-- both sides hold the same -/
def LI (n : Nat) (sx sm : gS) : Prop := sx.1 25 = nI n ∧ sm.1 6 = nI n ∧ n ≤ 12 ∧ (∀ r, r < n → RO (ru (vX sx.2) r)) ∧ (∀ r, r < n → ∀ t, ru (vX sx.2) r t = ru (vM sm.2) r t) ∧ (∀ j, j < 2 → sx.2 19 j = sm.2 8 j) ∧ sx.1 26 = sm.1 7 ∧ (∀ t, t ≠ 2 → dX sx t = ru (vM sm.2) 12 t) ∧ RO (dX sx) ∧ XC n sx.1 sx.2
theorem LI.ve {n : Nat} {sx sm : gS} (h : LI n sx sm) : VE n (vX sx.2) (vM sm.2) := ⟨h.2.2.2.2.1, h.2.2.2.2.2.1⟩
theorem LI.vx {n : Nat} {sx sm : gS} (h : LI n sx sm) : RVal n (vX sx.2) := rv_of h.2.2.1 h.2.2.2.1
theorem RO_cg {f g : Nat → Int32} (h : ∀ t, t ≠ 2 → f t = g t) (hf : RO f) : RO g := by
  obtain ⟨h1, h2, h3⟩ := hf
  exact ⟨by rw [← h 0 (by decide), ← h 1 (by decide)]; exact h1, by rw [← h 3 (by decide)]; exact h2, by rw [← h 4 (by decide)]; exact h3⟩
theorem LI.vm {n : Nat} {sx sm : gS} (h : LI n sx sm) : RVal n (vM sm.2) := rv_of h.2.2.1 (fun r hr => RO_cg (fun t _ => h.2.2.2.2.1 r hr t) (h.2.2.2.1 r hr))
/-- behind a question -/
theorem LI_q {n : Nat} {sx sm u : gS} (h : LI n sx sm) (hq : XQ n sx.1 sx.2 u) : LI n u sm := by
  obtain ⟨h1, h2, h3, h4, h5, h6, h7, h8, h9, -⟩ := h
  obtain ⟨⟨s1, s2⟩, hX⟩ := hq
  have eV : vX u.2 = vX sx.2 := vX_cg (fun k hk => s2 k (by omega))
  have eD : ∀ t, dX u t = dX sx t := fun t => by
    unfold dX
    rw [s1 20 (by decide), s1 21 (by decide), s2 22 (by decide), s2 23 (by decide), s2 24 (by decide)]
  exact ⟨by rw [s1 25 (by decide)]; exact h1, h2, h3, by rw [eV]; exact h4, by rw [eV]; exact h5, by rw [s2 19 (by decide)]; exact h6, by rw [s1 26 (by decide)]; exact h7, fun t ht => by rw [eD]; exact h8 t ht, RO_cg (fun t _ => (eD t).symm) h9, hX⟩
theorem LI_range {n : Nat} {sx sm : gS} (h : LI n sx sm) {x y : Int32} (ho : ok_range x y = true) : LI n (upd (upd sx.1 20 x) 21 y, sx.2) (sm.1, up2 (up2 sm.2 0 12 x) 1 12 y) := by
  obtain ⟨h1, h2, h3, h4, h5, h6, h7, h8, h9, h10⟩ := h
  unfold ok_range at ho
  simp only [Bool.and_eq_true] at ho
  obtain ⟨a, ha, -, rfl⟩ := inB_of ho.1.1
  obtain ⟨b, hb, -, rfl⟩ := inB_of ho.1.2
  have eM : ∀ r t, r < 12 → ru (vM (up2 (up2 sm.2 0 12 (nI a)) 1 12 (nI b))) r t = ru (vM sm.2) r t := fun r t hr => by
    match t with
    | 0 => simp [ru, vM, up2_at]; omega
    | 1 => simp [ru, vM, up2_at]; omega
    | 2 => simp [ru, vM, up2_at]
    | 3 => simp [ru, vM, up2_at]
    | 4 => simp [ru, vM, up2_at]
    | 5 => simp [ru, vM, up2_at]
    | 6 => simp [ru, vM, up2_at]
    | 7 => simp [ru, vM, up2_at]
    | t + 8 => simp [ru, vM, up2_at]
  refine ⟨h1, h2, h3, h4, fun r hr t => by rw [eM r t (by omega)]; exact h5 r hr t, fun j hj => by rw [show (sm.1, up2 (up2 sm.2 0 12 (nI a)) 1 12 (nI b)).2 8 = sm.2 8 from by simp [up2_k]]; exact h6 j hj, h7, fun t ht => ?_, ⟨⟨a, b, ha, hb, rfl, rfl⟩, h9.2.1, h9.2.2⟩, XC_cg (fun _ _ _ => rfl) (fun k hk => by dsimp only; rw [pk_un (by omega), pk_un (by omega)]) h10⟩
  have h8t := h8 t ht
  match t, ht with
  | 0, _ => simp [ru, vM, dX, up2_at, upd]
  | 1, _ => simp [ru, vM, dX, up2_at, upd]
  | 3, _ => simpa [ru, vM, dX, up2_at] using h8t
  | 4, _ => simpa [ru, vM, dX, up2_at] using h8t
  | 5, _ => simpa [ru, vM, dX, up2_at] using h8t
  | 6, _ => simpa [ru, vM, dX, up2_at] using h8t
  | 7, _ => simpa [ru, vM, dX, up2_at] using h8t
  | t + 8, _ => simpa [ru, vM, dX, up2_at] using h8t
theorem LI_cond {n : Nat} {sx sm : gS} (h : LI n sx sm) {s q m v : Int32} (ho : (inB 2 s && ok_what q) = true) : LI n (sx.1, up2 (up2 (up2 sx.2 22 (ix s) q) 23 (ix s) m) 24 (ix s) v) (sm.1, up2 (up2 (up2 sm.2 3 (24 + ix s) q) 4 (24 + ix s) m) 5 (24 + ix s) v) := by
  obtain ⟨h1, h2, h3, h4, h5, h6, h7, h8, h9, h10⟩ := h
  unfold ok_what at ho
  simp only [Bool.and_eq_true] at ho
  obtain ⟨k, hk, hk31, rfl⟩ := inB_of ho.1
  obtain ⟨w, hw, hw31, rfl⟩ := inB_of ho.2.1
  have hw7 : w % 8 ≠ 7 := by have := ho.2.2; rw [ix_nI hw31] at this; simpa using this
  rw [ix_nI hk31]
  have eX : vX (up2 (up2 (up2 sx.2 22 k (nI w)) 23 k m) 24 k v) = vX sx.2 := vX_cg (fun j hj => by repeat rw [up2_k (by omega)])
  have eM : ∀ r t, r < 12 → ru (vM (up2 (up2 (up2 sm.2 3 (24 + k) (nI w)) 4 (24 + k) m) 5 (24 + k) v)) r t = ru (vM sm.2) r t := fun r t hr => by
    match t with
    | 0 => simp [ru, vM, up2_at]
    | 1 => simp [ru, vM, up2_at]
    | 2 => simp [ru, vM, up2_at]
    | 3 => simp [ru, vM, up2_at]; omega
    | 4 => simp [ru, vM, up2_at]; omega
    | 5 => simp [ru, vM, up2_at]; omega
    | 6 => simp [ru, vM, up2_at]; omega
    | 7 => simp [ru, vM, up2_at]; omega
    | t + 8 => simp [ru, vM, up2_at]; omega
  have h8a := h8
  refine ⟨h1, h2, h3, by rw [eX]; exact h4, fun r hr t => by rw [eX, eM r t (by omega)]; exact h5 r hr t, fun j hj => ?_, h7, fun t ht => ?_, ?_, XC_cg (fun a ha _ => by dsimp only; repeat rw [up2_k (by omega)]) (fun _ _ => rfl) h10⟩
  · show up2 (up2 (up2 sx.2 22 k (nI w)) 23 k m) 24 k v 19 j = up2 (up2 (up2 sm.2 3 (24 + k) (nI w)) 4 (24 + k) m) 5 (24 + k) v 8 j
    repeat rw [up2_k (by decide)]
    exact h6 j hj
  · have h8t := h8 t ht
    rcases (show k = 0 ∨ k = 1 by omega) with rfl | rfl
    · match t, ht with
      | 0, _ => simpa [ru, vM, dX, up2_at] using h8t
      | 1, _ => simpa [ru, vM, dX, up2_at] using h8t
      | 3, _ => simp [ru, vM, dX, up2_at]
      | 4, _ => simpa [ru, vM, dX, up2_at] using h8t
      | 5, _ => simp [ru, vM, dX, up2_at]
      | 6, _ => simpa [ru, vM, dX, up2_at] using h8t
      | 7, _ => simp [ru, vM, dX, up2_at]
      | t + 8, _ => simpa [ru, vM, dX, up2_at] using h8t
    · match t, ht with
      | 0, _ => simpa [ru, vM, dX, up2_at] using h8t
      | 1, _ => simpa [ru, vM, dX, up2_at] using h8t
      | 3, _ => simpa [ru, vM, dX, up2_at] using h8t
      | 4, _ => simp [ru, vM, dX, up2_at]
      | 5, _ => simpa [ru, vM, dX, up2_at] using h8t
      | 6, _ => simp [ru, vM, dX, up2_at]
      | 7, _ => simpa [ru, vM, dX, up2_at] using h8t
      | t + 8, _ => simp [ru, vM, dX, up2_at]
  · obtain ⟨r1, r2, r3⟩ := h9
    rcases (show k = 0 ∨ k = 1 by omega) with rfl | rfl
    · exact ⟨r1, ⟨w, hw, hw7, by simp [dX, up2_at]⟩, by simpa [dX, up2_at] using r3⟩
    · exact ⟨r1, by simpa [dX, up2_at] using r2, ⟨w, hw, hw7, by simp [dX, up2_at]⟩⟩
theorem LI_arg {n : Nat} {sx sm : gS} (h : LI n sx sm) {x v : Int32} : LI n (sx.1, up2 sx.2 19 (ix x) v) (sm.1, up2 sm.2 8 (ix x) v) := by
  obtain ⟨h1, h2, h3, h4, h5, h6, h7, h8, h9, h10⟩ := h
  have eX : ∀ r t, ru (vX (up2 sx.2 19 (ix x) v)) r t = ru (vX sx.2) r t := fun r t => by
    match t with
    | 0 => simp [ru, vX, up2_at]
    | 1 => simp [ru, vX, up2_at]
    | 2 => simp [ru, vX, up2_at]
    | 3 => simp [ru, vX, up2_at]
    | 4 => simp [ru, vX, up2_at]
    | 5 => simp [ru, vX, up2_at]
    | 6 => simp [ru, vX, up2_at]
    | 7 => simp [ru, vX, up2_at]
    | t + 8 => simp [ru, vX, up2_at]
  have eM : ∀ r t, ru (vM (up2 sm.2 8 (ix x) v)) r t = ru (vM sm.2) r t := fun r t => by
    match t with
    | 0 => simp [ru, vM, up2_at]
    | 1 => simp [ru, vM, up2_at]
    | 2 => simp [ru, vM, up2_at]
    | 3 => simp [ru, vM, up2_at]
    | 4 => simp [ru, vM, up2_at]
    | 5 => simp [ru, vM, up2_at]
    | 6 => simp [ru, vM, up2_at]
    | 7 => simp [ru, vM, up2_at]
    | t + 8 => simp [ru, vM, up2_at]
  have eD : ∀ t, dX (sx.1, up2 sx.2 19 (ix x) v) t = dX sx t := fun t => by
    unfold dX
    simp [up2_at]
  refine ⟨h1, h2, h3, fun r hr => RO_cg (fun t _ => (eX r t).symm) (h4 r hr), fun r hr t => by rw [eX, eM]; exact h5 r hr t, fun j hj => ?_, h7, fun t ht => by rw [eD, eM]; exact h8 t ht, RO_cg (fun t _ => (eD t).symm) h9, XC_cg (fun a ha _ => up2_k (by omega)) (fun _ _ => rfl) h10⟩
  show up2 sx.2 19 (ix x) v 19 j = up2 sm.2 8 (ix x) v 8 j
  rw [up2_at, up2_at]
  by_cases e : j = ix x
  · rw [if_pos ⟨rfl, e⟩, if_pos ⟨rfl, e⟩]
  · rw [if_neg (fun z => e z.2), if_neg (fun z => e z.2)]
    exact h6 j hj
theorem LI_fall {n : Nat} {sx sm : gS} (h : LI n sx sm) {a : Int32} : LI n (upd sx.1 26 a, sx.2) (upd sm.1 7 a, sm.2) := by
  obtain ⟨h1, h2, h3, h4, h5, h6, h7, h8, h9, h10⟩ := h
  exact ⟨h1, h2, h3, h4, h5, h6, rfl, h8, h9, XC_cg (fun _ _ _ => rfl) (fun k hk => pk_un (by omega)) h10⟩
theorem LI_change {n : Nat} {sx sm : gS} (h : LI n sx sm) {k : Nat} (hk : k < n) {a : Int32} : LI n (sx.1, up2 sx.2 5 k a) (sm.1, up2 sm.2 2 k a) := by
  obtain ⟨h1, h2, h3, h4, h5, h6, h7, h8, h9, h10⟩ := h
  have eX : ∀ r t, ru (vX (up2 sx.2 5 k a)) r t = if r = k ∧ t = 2 then a else ru (vX sx.2) r t := fun r t => by
    match t with
    | 0 => simp [ru, vX, up2_at]
    | 1 => simp [ru, vX, up2_at]
    | 2 => simp [ru, vX, up2_at]
    | 3 => simp [ru, vX, up2_at]
    | 4 => simp [ru, vX, up2_at]
    | 5 => simp [ru, vX, up2_at]
    | 6 => simp [ru, vX, up2_at]
    | 7 => simp [ru, vX, up2_at]
    | t + 8 => simp [ru, vX, up2_at]
  have eM : ∀ r t, ru (vM (up2 sm.2 2 k a)) r t = if r = k ∧ t = 2 then a else ru (vM sm.2) r t := fun r t => by
    match t with
    | 0 => simp [ru, vM, up2_at]
    | 1 => simp [ru, vM, up2_at]
    | 2 => simp [ru, vM, up2_at]
    | 3 => simp [ru, vM, up2_at]
    | 4 => simp [ru, vM, up2_at]
    | 5 => simp [ru, vM, up2_at]
    | 6 => simp [ru, vM, up2_at]
    | 7 => simp [ru, vM, up2_at]
    | t + 8 => simp [ru, vM, up2_at]
  have eD : ∀ t, dX (sx.1, up2 sx.2 5 k a) t = dX sx t := fun t => by
    unfold dX
    simp [up2_at]
  refine ⟨h1, h2, h3, fun r hr => RO_cg (fun t ht => ?_) (h4 r hr), fun r hr t => ?_, fun j hj => ?_, h7, fun t ht => ?_, RO_cg (fun t _ => (eD t).symm) h9, XC_cg (fun c _ hc => up2_k hc) (fun _ _ => rfl) h10⟩
  · rw [eX, if_neg (fun z => ht z.2)]
  · rw [eX, eM, h5 r hr t]
  · show up2 sx.2 5 k a 19 j = up2 sm.2 2 k a 8 j
    rw [up2_k (by decide), up2_k (by decide)]
    exact h6 j hj
  · rw [eD, eM, if_neg (fun z => ht z.2)]
    exact h8 t ht
end
section
-- both sides move rules alike (no program in sight)
theorem dX_o {iv iv2 : Nat → Int32} {av av2 : Nat → Nat → Int32} (hi : ∀ a, a < 25 → iv2 a = iv a) (ha : ∀ a, 19 < a → av2 a = av a) (t : Nat) : dX (iv2, av2) t = dX (iv, av) t := by
  unfold dX
  dsimp only
  rw [hi 20 (by decide), hi 21 (by decide), ha 22 (by decide), ha 23 (by decide), ha 24 (by decide)]
theorem am12 (am : Nat → Nat → Int32) (a : Int32) (r t : Nat) : ru (vM (up2 am 2 12 a)) r t = if r = 12 ∧ t = 2 then a else ru (vM am) r t := by
  match t with
  | 0 => simp [ru, vM, up2_at]
  | 1 => simp [ru, vM, up2_at]
  | 2 => simp [ru, vM, up2_at]
  | 3 => simp [ru, vM, up2_at]
  | 4 => simp [ru, vM, up2_at]
  | 5 => simp [ru, vM, up2_at]
  | 6 => simp [ru, vM, up2_at]
  | 7 => simp [ru, vM, up2_at]
  | t + 8 => simp [ru, vM, up2_at]
theorem LI_put {n : Nat} {sx sm : gS} (h : LI n sx sm) {k : Nat} (hk : k ≤ n) (hn : n < 12) {a : Int32} : LI (n + 1) (upd (upd sx.1 25 (nI (n + 1))) 30 (nI 0), dfG sx.1 (shG pX sx.2 k (n - k)) k a) (upd sm.1 6 (nI (n + 1)), cpG pM (shG pM (up2 sm.2 2 12 a) k (n - k)) 12 k) := by
  obtain ⟨h1, h2, h3, h4, h5, h6, h7, h8, h9, h10⟩ := h
  have eD : ∀ t, dX (sx.1, shG pX sx.2 k (n - k)) t = dX sx t := dX_o (fun _ _ => rfl) (fun b hb => sh_o pX_le k b (by omega) (n - k) sx.2)
  have eX : ∀ r t, ru (vX (dfG sx.1 (shG pX sx.2 k (n - k)) k a)) r t = if r = k then (if t = 2 then a else dX sx t) else if k < r ∧ r ≤ n then ru (vX sx.2) (r - 1) t else ru (vX sx.2) r t := fun r t => by
    rw [df_ru, shX_ru, eD, show k + (n - k) = n by omega]
  have eM : ∀ r t, r < 12 → ru (vM (cpG pM (shG pM (up2 sm.2 2 12 a) k (n - k)) 12 k)) r t = if r = k then (if t = 2 then a else ru (vM sm.2) 12 t) else if k < r ∧ r ≤ n then ru (vM sm.2) (r - 1) t else ru (vM sm.2) r t := fun r t hr => by
    rw [cpM_ru, shM_ru, shM_ru, show k + (n - k) = n by omega, am12, am12, am12, am12]
    rw [if_neg (show ¬ (k < 12 ∧ 12 ≤ n) by omega), if_neg (show ¬ (r - 1 = 12 ∧ t = 2) by omega), if_neg (show ¬ (r = 12 ∧ t = 2) by omega)]
    simp only [true_and]
  have eD2 : ∀ t, dX (upd (upd sx.1 25 (nI (n + 1))) 30 (nI 0), dfG sx.1 (shG pX sx.2 k (n - k)) k a) t = dX sx t := dX_o (fun b hb => by rw [pk_un (by omega), pk_un (by omega)]) (fun b hb => by rw [df_o _ _ _ _ _ (by omega)]; exact sh_o pX_le k b (by omega) (n - k) sx.2)
  have eM12 : ∀ t, t ≠ 2 → ru (vM (cpG pM (shG pM (up2 sm.2 2 12 a) k (n - k)) 12 k)) 12 t = ru (vM sm.2) 12 t := fun t ht => by
    rw [cpM_ru, shM_ru, if_neg (show ¬ 12 = k by omega), if_neg (by omega), am12, if_neg (fun z => ht z.2)]
  refine ⟨rfl, rfl, by omega, fun r hr => ?_, fun r hr t => ?_, fun j hj => ?_, h7, fun t ht => ?_, RO_cg (fun t _ => (eD2 t).symm) h9, Or.inl rfl⟩
  · by_cases e1 : r = k
    · exact RO_cg (fun t ht => by rw [eX, if_pos e1, if_neg ht]) h9
    · by_cases e2 : k < r ∧ r ≤ n
      · exact RO_cg (fun t ht => by rw [eX, if_neg e1, if_pos e2]) (h4 (r - 1) (by omega))
      · exact RO_cg (fun t ht => by rw [eX, if_neg e1, if_neg e2]) (h4 r (by omega))
  · rw [eX, eM r t (by omega)]
    by_cases e1 : r = k
    · rw [if_pos e1, if_pos e1]
      by_cases ht : t = 2
      · rw [if_pos ht, if_pos ht]
      · rw [if_neg ht, if_neg ht]
        exact h8 t ht
    · rw [if_neg e1, if_neg e1]
      by_cases e2 : k < r ∧ r ≤ n
      · rw [if_pos e2, if_pos e2]
        exact h5 (r - 1) (by omega) t
      · rw [if_neg e2, if_neg e2]
        exact h5 r (by omega) t
  · show dfG sx.1 (shG pX sx.2 k (n - k)) k a 19 j = cpG pM (shG pM (up2 sm.2 2 12 a) k (n - k)) 12 k 8 j
    rw [df_o _ _ _ _ _ (by decide), sh_o pX_le k 19 (by decide), cpM_o _ _ _ _ (by decide), sh_o pM_le k 8 (by decide), up2_k (by decide)]
    exact h6 j hj
  · rw [eD2]
    exact (h8 t ht).trans (eM12 t ht).symm
theorem LI_remove {n : Nat} {sx sm : gS} (h : LI n sx sm) {k : Nat} (hk : k < n) : LI (n - 1) (upd (upd sx.1 25 (nI (n - 1))) 30 (nI 0), sdG pX sx.2 k (n - 1 - k)) (upd sm.1 6 (nI (n - 1)), sdG pM sm.2 k (n - 1 - k)) := by
  obtain ⟨h1, h2, h3, h4, h5, h6, h7, h8, h9, h10⟩ := h
  have eD2 : ∀ t, dX (upd (upd sx.1 25 (nI (n - 1))) 30 (nI 0), sdG pX sx.2 k (n - 1 - k)) t = dX sx t := dX_o (fun b hb => by rw [pk_un (by omega), pk_un (by omega)]) (fun b hb => sd_o pX_le b (by omega) _ _ _)
  refine ⟨rfl, rfl, by omega, fun r hr => ?_, fun r hr t => ?_, fun j hj => ?_, h7, fun t ht => ?_, RO_cg (fun t _ => (eD2 t).symm) h9, Or.inl rfl⟩
  · by_cases e2 : k ≤ r ∧ r < k + (n - 1 - k)
    · exact RO_cg (fun t ht => by rw [sdX_ru, if_pos e2]) (h4 (r + 1) (by omega))
    · exact RO_cg (fun t ht => by rw [sdX_ru, if_neg e2]) (h4 r (by omega))
  · rw [sdX_ru, sdM_ru]
    by_cases e2 : k ≤ r ∧ r < k + (n - 1 - k)
    · rw [if_pos e2, if_pos e2]
      exact h5 (r + 1) (by omega) t
    · rw [if_neg e2, if_neg e2]
      exact h5 r (by omega) t
  · show sdG pX sx.2 k (n - 1 - k) 19 j = sdG pM sm.2 k (n - 1 - k) 8 j
    rw [sd_o pX_le 19 (by decide), sd_o pM_le 8 (by decide)]
    exact h6 j hj
  · rw [eD2, sdM_ru, if_neg (by omega)]
    exact h8 t ht
/-- where rule r comes from when f moves to t -/
def mv (f t r : Nat) : Nat := if r = t then f else if f ≤ r ∧ r < t then r + 1 else if t < r ∧ r ≤ f then r - 1 else r
theorem mvX_ru (av : Nat → Nat → Int32) {f t r x : Nat} (hf : f < 12) (ht : t < 12) (hr : r < 12) : ru (vX (cpG pX (shG pX (sdG pX (cpG pX av f 12) f (t - f)) t (f - t)) 12 t)) r x = ru (vX av) (mv f t r) x := by
  have e1 : ∀ i, ru (vX (shG pX (sdG pX (cpG pX av f 12) f (t - f)) t (f - t))) i x = if t < i ∧ i ≤ t + (f - t) then (if f ≤ i - 1 ∧ i - 1 < f + (t - f) then (if i - 1 + 1 = 12 then ru (vX av) f x else ru (vX av) (i - 1 + 1) x) else (if i - 1 = 12 then ru (vX av) f x else ru (vX av) (i - 1) x)) else (if f ≤ i ∧ i < f + (t - f) then (if i + 1 = 12 then ru (vX av) f x else ru (vX av) (i + 1) x) else (if i = 12 then ru (vX av) f x else ru (vX av) i x)) := fun i => by
    rw [shX_ru, sdX_ru, sdX_ru, cpX_ru, cpX_ru, cpX_ru, cpX_ru]
  rw [cpX_ru, e1, e1]
  unfold mv
  by_cases h1 : r = t
  · rw [if_pos h1, if_pos h1, if_neg (by omega), if_neg (by omega), if_pos rfl]
  · rw [if_neg h1, if_neg h1]
    by_cases h2 : f ≤ r ∧ r < t
    · rw [if_neg (by omega), if_pos (by omega), if_neg (by omega), if_pos h2]
    · rw [if_neg h2]
      by_cases h3 : t < r ∧ r ≤ f
      · rw [if_pos (by omega), if_neg (by omega), if_neg (by omega), if_pos h3]
      · rw [if_neg (by omega), if_neg (by omega), if_neg (by omega), if_neg h3]
theorem mvM_ru (av : Nat → Nat → Int32) {n f t r x : Nat} (hn : n ≤ 12) (hf : f < n) (ht : t < n) (hr : r < n ∨ r = 12) : ru (vM (cpG pM (shG pM (sdG pM (cpG pM av f 13) f (n - 1 - f)) t (n - 1 - t)) 13 t)) r x = ru (vM av) (if r = 12 then 12 else mv f t r) x := by
  have e1 : ∀ i, ru (vM (shG pM (sdG pM (cpG pM av f 13) f (n - 1 - f)) t (n - 1 - t))) i x = if t < i ∧ i ≤ t + (n - 1 - t) then (if f ≤ i - 1 ∧ i - 1 < f + (n - 1 - f) then (if i - 1 + 1 = 13 then ru (vM av) f x else ru (vM av) (i - 1 + 1) x) else (if i - 1 = 13 then ru (vM av) f x else ru (vM av) (i - 1) x)) else (if f ≤ i ∧ i < f + (n - 1 - f) then (if i + 1 = 13 then ru (vM av) f x else ru (vM av) (i + 1) x) else (if i = 13 then ru (vM av) f x else ru (vM av) i x)) := fun i => by
    rw [shM_ru, sdM_ru, sdM_ru, cpM_ru, cpM_ru, cpM_ru, cpM_ru]
  rw [cpM_ru, e1, e1]
  by_cases h12 : r = 12
  · subst h12
    rw [if_neg (show ¬ 12 = t by omega), if_neg (by omega), if_neg (by omega), if_neg (by omega), if_pos rfl]
  · rw [if_neg h12]
    unfold mv
    by_cases h1 : r = t
    · rw [if_pos h1, if_pos h1, if_neg (by omega), if_neg (by omega), if_pos rfl]
    · rw [if_neg h1, if_neg h1]
      by_cases h2 : f ≤ r ∧ r < t
      · rw [if_neg (by omega), if_pos (by omega), if_neg (by omega), if_pos h2]
      · rw [if_neg h2]
        by_cases h3 : t < r ∧ r ≤ f
        · rw [if_pos (by omega), if_neg (by omega), if_neg (by omega), if_pos h3]
        · rw [if_neg h3]
          by_cases h4 : t < r
          · rw [if_pos (by omega), if_pos (by omega), if_neg (by omega), show r - 1 + 1 = r by omega]
          · rw [if_neg (by omega), if_neg (by omega), if_neg (by omega)]
theorem LI_move {n : Nat} {sx sm : gS} (h : LI n sx sm) {f t : Nat} (hf : f < n) (ht : t < n) : LI n (upd sx.1 30 (nI 0), cpG pX (shG pX (sdG pX (cpG pX sx.2 f 12) f (t - f)) t (f - t)) 12 t) (upd (upd sm.1 6 (nI (n - 1))) 6 (nI (n - 1 + 1)), cpG pM (shG pM (sdG pM (cpG pM sm.2 f 13) f (n - 1 - f)) t (n - 1 - t)) 13 t) := by
  obtain ⟨h1, h2, h3, h4, h5, h6, h7, h8, h9, h10⟩ := h
  have hmv : ∀ r, r < n → mv f t r < n := fun r hr => by unfold mv; split <;> (try split) <;> (try split) <;> omega
  have eD2 : ∀ x, dX (upd sx.1 30 (nI 0), cpG pX (shG pX (sdG pX (cpG pX sx.2 f 12) f (t - f)) t (f - t)) 12 t) x = dX sx x := dX_o (fun b hb => pk_un (by omega)) (fun b hb => by rw [cpX_o _ _ _ _ (by omega), sh_o pX_le t b (by omega), sd_o pX_le b (by omega), cpX_o _ _ _ _ (by omega)])
  refine ⟨h1, ?_, h3, fun r hr => ?_, fun r hr x => ?_, fun j hj => ?_, h7, fun x hx => ?_, RO_cg (fun x _ => (eD2 x).symm) h9, Or.inl rfl⟩
  · show upd (upd sm.1 6 (nI (n - 1))) 6 (nI (n - 1 + 1)) 6 = nI n
    rw [pk_us, show n - 1 + 1 = n by omega]
  · exact RO_cg (fun x _ => (mvX_ru sx.2 (show f < 12 by omega) (show t < 12 by omega) (show r < 12 by omega)).symm) (h4 _ (hmv r hr))
  · rw [mvX_ru sx.2 (by omega) (by omega) (by omega), mvM_ru sm.2 h3 hf ht (Or.inl hr), if_neg (by omega)]
    exact h5 _ (hmv r hr) x
  · show cpG pX (shG pX (sdG pX (cpG pX sx.2 f 12) f (t - f)) t (f - t)) 12 t 19 j = cpG pM (shG pM (sdG pM (cpG pM sm.2 f 13) f (n - 1 - f)) t (n - 1 - t)) 13 t 8 j
    rw [cpX_o _ _ _ _ (by decide), sh_o pX_le t 19 (by decide), sd_o pX_le 19 (by decide), cpX_o _ _ _ _ (by decide), cpM_o _ _ _ _ (by decide), sh_o pM_le t 8 (by decide), sd_o pM_le 8 (by decide), cpM_o _ _ _ _ (by decide)]
    exact h6 j hj
  · rw [eD2, mvM_ru sm.2 h3 hf ht (Or.inr rfl), if_pos rfl]
    exact h8 x hx
end
section
/-! THE CLAIM OUT OF ONE WALK OF THE LAW'S BODY. Your part is whole_start (and what it stands on); all else here is the same for every law, but numbers. -/
def lw_P (b : Addr) (xs : List Int32) (args : Array Value) (s : State) : Prop := args = #[.ref b] ∧ s.IntsAt b xs ∧ xs.length ≤ 2560 ∧ (Jvm.Cond.and given_1 narrow_1).before args s = true
def lw_Q (_ : Array Value) (s : State) (o : Outcome) (t : State) : Prop := o = .returned (some (.int 1)) ∧ Framed s o t [] 32 1582
def lw_Z (below : List Frame) (a : Array Value) (s : State) : State → Prop := fun t => ∃ o, t.status = .running ∧ Ended t below o ∧ lw_Q a s o t
/-- the law's own end, with 1 on the stack, nothing written that was there before, its room as the claim has it -/
theorem lw_ret {p : Program} {l : Launch} {e : Env} {s : State} {m : MethodId} {below : List Frame} {meth : Method} {c : Code} {b : Nat} (hx : p.tables.exec = Jvm.exec) (hb : c.code = code) (hr : meth.sig.returnType = ret) (hlocks : meth.locks = false) {pc : Nat} {H : Heap} {ls : Array Slot} (hdg : decode code pc = .ok (.ireturn, 1)) : W p l e room_1 s m #[Value.ref b] below meth c H [] 32 1582 (lw_Z below #[Value.ref b] s) (F0 m pc ls [.int 1]) := by
  intro T hT X
  obtain ⟨fs, hret, hrun, hended, hW, hframe⟩ := X.leave (v := some (.int 1)) (hlocks := hlocks) (fun h => by rw [hr] at h; cases h)
  have hmeth' : T.vm.method? m = some meth := X.method'
  refine ⟨T.setFrames fs, ?_, .returned (some (.int 1)), hrun, hended, rfl, ⟨_, rfl⟩, hW, hframe⟩
  jvm_step X.here [X.here.top, hx, hb, hdg, hmeth', hr, ret, narrow_b1]
  (try refine ⟨rfl, ?_⟩); (try refine ⟨rfl, ?_⟩)
  first | (intro acts; rw [hret _ acts rfl rfl rfl]) | rw [hret _ _ rfl rfl rfl]
  exact Steps.refl _
/-- what holds at the law's entry: the machine, the code, the tables' words (any of lw_tbl by 'hts w (by decide +kernel)'), the script of L ints xs at the cell b, what the Statement gives of the start (any of its parts by flat_of_before) -/
def lw_At (p : Program) (s : State) (m : MethodId) (meth : Method) (c : Code) (b L : Nat) (xs : Nat → Int32) : Prop :=
  p.tables.exec = Jvm.exec ∧ c.code = code ∧ meth.sig.returnType = ret ∧ c.maxLocals = 4 ∧ s.vm.findClass R_law = some m.cls ∧ (∀ w ∈ lw_tbl, w.before #[Value.ref b] s = true) ∧ va_X b L xs s s.heap ∧ b < s.heap.size ∧ meth.locks = false ∧ (Jvm.Cond.and given_1 narrow_1).before #[Value.ref b] s = true
/-! the law's judgement: two objects, each with its ints and arrays, and the script -/
abbrev lJT : Type := Nat → List (Nat × Value) → List Value → gS → gS → Prop
def lW2 (GX GM : gG) (sx sm : gS) : va_W := gW false GX sx.1 sx.2 ++ gW true GM sm.1 sm.2
def lP (GX GM : gG) (s : State) (sx sm : gS) (H : Heap) (locs : List Loc) : Prop := va_P GX.2.2.2.2 classes (lW2 GX GM sx sm) H ∧ va_D (fun q : Nat => s.heap.size ≤ q) (lW2 GX GM sx sm) ∧ va_S (fun q : Nat => s.heap.size ≤ q) s.heap H locs
def lJ (GX GM : gG) (p : Program) (l : Launch) (e : Env) (s : State) (m : MethodId) (below : List Frame) (meth : Method) (c : Code) (b : Nat) : lJT := fun pc lv st sx sm =>
  ∀ (ls : Array Slot) (H : Heap) (locs : List Loc), lv_has ls 4 lv → lP GX GM s sx sm H locs → W p l e room_1 s m #[Value.ref b] below meth c H locs 32 1582 (lw_Z below #[Value.ref b] s) (F0 m pc ls st)
def lR (GX GM : gG) (l : Launch) (b L : Nat) (xs : Nat → Int32) (J : lJT) : Prop :=
  ∃ (p : Program) (e : Env) (s : State) (m : MethodId) (below : List Frame) (meth : Method) (c : Code), (p.tables.exec = Jvm.exec ∧ c.code = code ∧ meth.sig.returnType = ret ∧ c.maxLocals = 4 ∧ s.vm.findClass R_law = some m.cls ∧ (∀ w ∈ tW, w.before #[Value.ref b] s = true) ∧ va_X b L xs s s.heap ∧ b < s.heap.size ∧ meth.locks = false ∧ gK GX s ∧ GM.2.2 = GX.2.2) ∧ J = lJ GX GM p l e s m below meth c b
theorem gK_eq {GX GM : gG} {s : State} (e : GM.2.2 = GX.2.2) (h : gK GX s) : gK GM s := by
  unfold gK gTys at h ⊢
  rw [e]
  exact h
theorem ap_l {w0 w1 : va_W} {k : Nat} {q : Nat × va_E} (h : w0[k]? = some q) : (w0 ++ w1)[k]? = some q := by
  rw [List.getElem?_append_left (List.getElem?_eq_some_iff.mp h).1]
  exact h
theorem ap_r {w0 w1 : va_W} {k : Nat} {q : Nat × va_E} (h : w1[k]? = some q) : (w0 ++ w1)[w0.length + k]? = some q := by
  rw [List.getElem?_append_right (by omega), Nat.add_sub_cancel_left]
  exact h
theorem P_l {D : va_G} {cl : List vw_C} {w0 w1 : va_W} {H : Heap} (h : va_P D cl (w0 ++ w1) H) : va_P D cl w0 H := fun _ q hq => h _ q (ap_l hq)
theorem P_r {D : va_G} {cl : List vw_C} {w0 w1 : va_W} {H : Heap} (h : va_P D cl (w0 ++ w1) H) : va_P D cl w1 H := fun _ q hq => h _ q (ap_r hq)
theorem D_l {A : Nat → Prop} {w0 w1 : va_W} (h : va_D A (w0 ++ w1)) : va_D A w0 := ⟨fun i j p q hi hj e => h.1 i j p q (ap_l hi) (ap_l hj) e, fun _ q hq => h.2 _ q (ap_l hq)⟩
theorem D_r {A : Nat → Prop} {w0 w1 : va_W} (h : va_D A (w0 ++ w1)) : va_D A w1 := ⟨fun i j p q hi hj e => by have := h.1 _ _ p q (ap_r hi) (ap_r hj) e; omega, fun _ q hq => h.2 _ q (ap_r hq)⟩
theorem D_x {A : Nat → Prop} {w0 w1 : va_W} (h : va_D A (w0 ++ w1)) {i j : Nat} {p q : Nat × va_E} (hi : w0[i]? = some p) (hj : w1[j]? = some q) : p.1 ≠ q.1 := fun e => by
  have := h.1 _ _ p q (ap_l hi) (ap_r hj) e
  have := (List.getElem?_eq_some_iff.mp hi).1
  omega
theorem lj_join {A : Nat → Prop} {D : va_G} {cl : List vw_C} {w0 w1 w2 : va_W} {H H1 : Heap} (hP : va_P D cl (w0 ++ w1) H) (hD : va_D A (w0 ++ w1)) (hk : ∀ q : Nat, q < H.size → ¬ va_A w0 H.size q → H1[q]? = H[q]?) (hF : ∀ q, va_A w0 H.size q → A q) (hP1 : va_P D cl w2 H1) (hD1 : va_D (va_A w0 H.size) w2) : va_P D cl (w2 ++ w1) H1 ∧ va_D A (w2 ++ w1) := by
  have apart : ∀ (k : Nat) (q : Nat × va_E), w1[k]? = some q → q.1 < H.size ∧ ¬ va_A w0 H.size q.1 := fun k q hq => by
    have hl := (P_r hP k q hq).lt
    refine ⟨hl, fun h => ?_⟩
    rcases h with ⟨k2, e, h⟩ | h
    · exact D_x hD h hq rfl
    · omega
  refine ⟨va_P.app hP1 (fun k q hq => (P_r hP k q hq).kept (hk q.1 (apart k q hq).1 (apart k q hq).2)), va_D.app (hD1.weaken (fun k q _ h => hF q.1 h)) (D_r hD) (fun i j x y hx hy hxy => (apart j y hy).2 (by rw [← hxy]; exact hD1.2 i x hx))⟩
theorem P_sw {D : va_G} {cl : List vw_C} {w0 w1 : va_W} {H : Heap} (h : va_P D cl (w0 ++ w1) H) : va_P D cl (w1 ++ w0) H := va_P.app (P_r h) (P_l h)
theorem D_sw {A : Nat → Prop} {w0 w1 : va_W} (h : va_D A (w0 ++ w1)) : va_D A (w1 ++ w0) := va_D.app (D_r h) (D_l h) (fun i j p q hi hj e => D_x h hj hi e.symm)
section LR
variable {GX GM : gG} {l : Launch} {b L : Nat} {xs : Nat → Int32} {J : lJT} {pc : Nat} {lv : List (Nat × Value)} {st rest : List Value} {sx sm : gS}
theorem k_iconst (hJ : lR GX GM l b L xs J) {n : Int} {v : Int32} (hd : decode code pc = .ok (.iconst n, 1)) (hv : Int32.ofInt n = v) (kk : J (pc + 1) lv (.int v :: st) sx sm) : J pc lv st sx sm := by
  obtain ⟨p, e, s, m, below, meth, c, ⟨hx, hb, hr, hml, hown, hts, hX, hbl, hlocks, hK, hG⟩, rfl⟩ := hJ
  intro ls H locs hl hP
  exact lv_iconst hx hb hd hv (kk ls H locs hl hP)
theorem k_bipush (hJ : lR GX GM l b L xs J) {n : Int} {v : Int32} (hd : decode code pc = .ok (.bipush n, 2)) (hv : (Int8.ofInt n).toInt32 = v) (kk : J (pc + 2) lv (.int v :: st) sx sm) : J pc lv st sx sm := by
  obtain ⟨p, e, s, m, below, meth, c, ⟨hx, hb, hr, hml, hown, hts, hX, hbl, hlocks, hK, hG⟩, rfl⟩ := hJ
  intro ls H locs hl hP
  exact lv_bipush hx hb hd hv (kk ls H locs hl hP)
theorem k_iload_n (hJ : lR GX GM l b L xs J) {k : Fin 4} {x : Int32} (hd : decode code pc = .ok (.iload_n k, 1)) (hg : gget k.val lv = some (.int x)) (kk : J (pc + 1) lv (.int x :: st) sx sm) : J pc lv st sx sm := by
  obtain ⟨p, e, s, m, below, meth, c, ⟨hx, hb, hr, hml, hown, hts, hX, hbl, hlocks, hK, hG⟩, rfl⟩ := hJ
  intro ls H locs hl hP
  exact lv_iload_n hx hb hd rfl (lv_gget hl hg) (kk ls H locs hl hP)
theorem k_aload_n (hJ : lR GX GM l b L xs J) {k : Fin 4} {x : Nat} (hd : decode code pc = .ok (.aload_n k, 1)) (hg : gget k.val lv = some (.ref x)) (kk : J (pc + 1) lv (.ref x :: st) sx sm) : J pc lv st sx sm := by
  obtain ⟨p, e, s, m, below, meth, c, ⟨hx, hb, hr, hml, hown, hts, hX, hbl, hlocks, hK, hG⟩, rfl⟩ := hJ
  intro ls H locs hl hP
  exact lv_aload_n hx hb hd rfl (lv_gget hl hg) (kk ls H locs hl hP)
theorem k_iaddn (hJ : lR GX GM l b L xs J) {a d : Nat} (hd : decode code pc = .ok (.iadd, 1)) (kk : J (pc + 1) lv (.int (nI (a + d)) :: st) sx sm) : J pc lv (.int (nI d) :: .int (nI a) :: st) sx sm := by
  obtain ⟨p, e, s, m, below, meth, c, ⟨hx, hb, hr, hml, hown, hts, hX, hbl, hlocks, hK, hG⟩, rfl⟩ := hJ
  intro ls H locs hl hP
  refine lv_iadd hx hb hd ?_
  rw [nI_add]
  exact kk ls H locs hl hP
theorem k_isub (hJ : lR GX GM l b L xs J) {x y : Int32} (hd : decode code pc = .ok (.isub, 1)) (kk : J (pc + 1) lv (.int (x - y) :: st) sx sm) : J pc lv (.int y :: .int x :: st) sx sm := by
  obtain ⟨p, e, s, m, below, meth, c, ⟨hx, hb, hr, hml, hown, hts, hX, hbl, hlocks, hK, hG⟩, rfl⟩ := hJ
  intro ls H locs hl hP
  exact lv_isub hx hb hd (kk ls H locs hl hP)
theorem k_iand (hJ : lR GX GM l b L xs J) {x y : Int32} (hd : decode code pc = .ok (.iand, 1)) (kk : J (pc + 1) lv (.int (x &&& y) :: st) sx sm) : J pc lv (.int y :: .int x :: st) sx sm := by
  obtain ⟨p, e, s, m, below, meth, c, ⟨hx, hb, hr, hml, hown, hts, hX, hbl, hlocks, hK, hG⟩, rfl⟩ := hJ
  intro ls H locs hl hP
  exact lv_iand hx hb hd (kk ls H locs hl hP)
theorem k_len (hJ : lR GX GM l b L xs J) (hd : decode code pc = .ok (.arraylength, 1)) (kk : J (pc + 1) lv (.int (nI L) :: st) sx sm) : J pc lv (.ref b :: st) sx sm := by
  obtain ⟨p, e, s, m, below, meth, c, ⟨hx, hb, hr, hml, hown, hts, hX, hbl, hlocks, hK, hG⟩, rfl⟩ := hJ
  intro ls H locs hl hP
  exact va_slen hx hb hX hbl (Nat.not_le.mpr hbl) hP.2.2 hd (kk ls H locs hl hP)
theorem k_sld (hJ : lR GX GM l b L xs J) {j : Nat} (hj : j < L) (hL : L < 2 ^ 31) (hd : decode code pc = .ok (.iaload, 1)) (kk : J (pc + 1) lv (.int (xs j) :: st) sx sm) : J pc lv (.int (nI j) :: .ref b :: st) sx sm := by
  obtain ⟨p, e, s, m, below, meth, c, ⟨hx, hb, hr, hml, hown, hts, hX, hbl, hlocks, hK, hG⟩, rfl⟩ := hJ
  intro ls H locs hl hP
  refine va_sld hx hb hX hbl (Nat.not_le.mpr hbl) hP.2.2 (vp_in_nI hj hL) hd ?_
  rw [nI_clamp (by omega)]
  exact kk ls H locs hl hP
/-- script[i + q] on the stack -/
theorem k_arg (hJ : lR GX GM l b L xs J) {i q : Nat} {z : Int} (hL : L < 2 ^ 31) (hg0 : gget 0 lv = some (.ref b)) (hg3 : gget 3 lv = some (.int (nI i))) (h0 : decode code pc = .ok (.aload_n 0, 1)) (h1 : decode code (pc + 1) = .ok (.iload_n 3, 1)) (h2 : decode code (pc + 2) = .ok (.iconst z, 1)) (hz : Int32.ofInt z = nI q) (h3 : decode code (pc + 3) = .ok (.iadd, 1)) (h4 : decode code (pc + 4) = .ok (.iaload, 1)) (hj : i + q < L)
    (kk : J (pc + 5) lv (.int (xs (i + q)) :: st) sx sm) : J pc lv st sx sm :=
  k_aload_n hJ h0 hg0 (k_iload_n hJ h1 hg3 (k_iconst hJ h2 hz (k_iaddn hJ h3 (k_sld hJ hj hL h4 kk))))
theorem k_gt (hJ : lR GX GM l b L xs J) {x y : Int32} {off : Int} {tgt : Nat} (hd : decode code pc = .ok (.if_icmp .gt off, 3)) (ht : (pc : Int) + off = (tgt : Int)) (kt : y < x → J tgt lv st sx sm) (kk : ¬ (y < x) → J (pc + 3) lv st sx sm) : J pc lv (.int y :: .int x :: st) sx sm := by
  obtain ⟨p, e, s, m, below, meth, c, ⟨hx, hb, hr, hml, hown, hts, hX, hbl, hlocks, hK, hG⟩, rfl⟩ := hJ
  intro ls H locs hl hP
  exact lv_icmp_gt hx hb hd ht (fun q => kt q ls H locs hl hP) (fun q => kk q ls H locs hl hP)
theorem k_eq (hJ : lR GX GM l b L xs J) {x y : Int32} {off : Int} {tgt : Nat} (hd : decode code pc = .ok (.if_icmp .eq off, 3)) (ht : (pc : Int) + off = (tgt : Int)) (hxy : x = y) (kk : J tgt lv st sx sm) : J pc lv (.int y :: .int x :: st) sx sm := by
  obtain ⟨p, e, s, m, below, meth, c, ⟨hx, hb, hr, hml, hown, hts, hX, hbl, hlocks, hK, hG⟩, rfl⟩ := hJ
  intro ls H locs hl hP
  exact lv_icmp_eq hx hb hd ht (fun q => kk ls H locs hl hP) (fun q => absurd hxy q)
theorem k_goto (hJ : lR GX GM l b L xs J) {off : Int} {tgt : Nat} (hd : decode code pc = .ok (.goto off, 3)) (ht : (pc : Int) + off = (tgt : Int)) (kk : J tgt lv st sx sm) : J pc lv st sx sm := by
  obtain ⟨p, e, s, m, below, meth, c, ⟨hx, hb, hr, hml, hown, hts, hX, hbl, hlocks, hK, hG⟩, rfl⟩ := hJ
  intro ls H locs hl hP
  exact lv_goto hx hb hd ht (kk ls H locs hl hP)
theorem k_inc (hJ : lR GX GM l b L xs J) {i a k : Nat} {lv2 : List (Nat × Value)} (hd : decode code pc = .ok (.iinc i (k : Int), 3)) (hg : gget i lv = some (.int (nI a))) (hk : Int32.ofInt (k : Int) = nI k) (hn : i < 4) (hc : gcat lv = true) (hs : gset i (.int (nI (a + k))) lv = lv2) (kk : J (pc + 3) lv2 st sx sm) : J pc lv st sx sm := by
  obtain ⟨p, e, s, m, below, meth, c, ⟨hx, hb, hr, hml, hown, hts, hX, hbl, hlocks, hK, hG⟩, rfl⟩ := hJ
  intro ls H locs hl hP
  obtain ⟨q, hq⟩ := g_place hg
  exact lv_iinc hx hb hd hl hq (by rw [hk, nI_add]) hn rfl (fun ls2 h2 => kk ls2 H locs (hs ▸ lv_to hc h2) hP)
theorem k_ret (hJ : lR GX GM l b L xs J) (hd : decode code pc = .ok (.ireturn, 1)) : J pc lv [.int 1] sx sm := by
  obtain ⟨p, e, s, m, below, meth, c, ⟨hx, hb, hr, hml, hown, hts, hX, hbl, hlocks, hK, hG⟩, rfl⟩ := hJ
  intro ls H locs hl hP
  refine va_forget (fun q hq => hP.2.2.2.2 q hq) ?_
  exact lw_ret hx hb hr hlocks hd
theorem k_out (hJ : lR GX GM l b L xs J) {dflt lo hi : Int} {offs : Array Int} {len : Nat} {x : Int32} {tgt : Nat} (hd : decode code pc = .ok (.tableswitch dflt lo hi offs, len)) (h : x.toInt < lo ∨ hi < x.toInt) (ht : (pc : Int) + dflt = (tgt : Int)) (kk : J tgt lv st sx sm) : J pc lv (.int x :: st) sx sm := by
  obtain ⟨p, e, s, m, below, meth, c, ⟨hx, hb, hr, hml, hown, hts, hX, hbl, hlocks, hK, hG⟩, rfl⟩ := hJ
  intro ls H locs hl hP
  exact lv_tableOut hx hb hd h ht (kk ls H locs hl hP)
theorem k_in (hJ : lR GX GM l b L xs J) {dflt lo hi : Int} {offs : Array Int} {len : Nat} {x : Int32} {off : Int} {tgt : Nat} (hd : decode code pc = .ok (.tableswitch dflt lo hi offs, len)) (h1 : ¬ x.toInt < lo) (h2 : ¬ hi < x.toInt) (ho : offs[(x.toInt - lo).toNat]? = some off) (ht : (pc : Int) + off = (tgt : Int)) (kk : J tgt lv st sx sm) : J pc lv (.int x :: st) sx sm := by
  obtain ⟨p, e, s, m, below, meth, c, ⟨hx, hb, hr, hml, hown, hts, hX, hbl, hlocks, hK, hG⟩, rfl⟩ := hJ
  intro ls H locs hl hP
  exact lv_tableIn hx hb hd h1 h2 ho ht (kk ls H locs hl hP)
theorem k_top {x y : Int32} (h : x = y) (kk : J pc lv (.int y :: st) sx sm) : J pc lv (.int x :: st) sx sm := h ▸ kk
theorem k_callX (hJ : lR GX GM l b L xs J) {idx n nL2 f2 n2 : Nat} {y : MethodName} {cc2 : ByteArray} {rt : FieldType} {As : List Value} {post : Int32 → gS → Prop} (hk : gLk R_X R_law idx y cc2 nL2 (some rt) n) (hM : gM false GX l y cc2 nL2 (gRm f2 n2) rt As sx.1 sx.2 post) (hf : f2 + 1 ≤ 7) (hlo : 8 + (nL2 + 11) + n2 ≤ 232) (hn : As.length = n) (hst : st = As.reverse ++ Value.ref GX.1 :: rest) (hw : (rest.map fun v => v.category).sum ≤ 8) (hd : decode code pc = .ok (.invokevirtual idx, 3))
    (kk : ∀ (r : Int32) (u : gS), post r u → J (pc + 3) lv (.int r :: rest) u sm) : J pc lv st sx sm := by
  obtain ⟨p, e, s, m, below, meth, c, ⟨hx, hb, hr, hml, hown, hts, hX, hbl, hlocks, hK, hG⟩, rfl⟩ := hJ
  subst hst
  intro ls H locs hl hP
  obtain ⟨k1, k2, k3, k4, k5, k6, k7, k8⟩ := hk
  have hP0 := P_l hP.1
  have hD0 := D_l hP.2.1
  have hK0 := hK
  have hF : ∀ q, va_A (gW false GX sx.1 sx.2) H.size q → s.heap.size ≤ q := fun q h => by
    rcases h with ⟨k, e, hk⟩ | h
    · exact hD0.2 k (q, e) hk
    · exact Nat.le_trans hP.2.2.1 h
  have cw : CallW room_1 s #[Value.ref b] R_law R_X idx y cc2 nL2 (some rt) (.code y cc2 nL2 (some rt) :: tW) (gRm f2 n2) 0 0 n :=
    ⟨callB_of n hts (gd_cons k2) rfl rfl rfl (by rw [k1]; exact hts _ k6) (hts _ k3) ⟨by rw [k1]; exact k7.1, by rw [k1]; exact k7.2, k8⟩ ⟨hf, hlo⟩, hts _ k4, hts _ k5⟩
  refine va_calli (va_runV (As := As) (rest := rest) ⟨hx, hb, hml, hown, hts⟩ (hM H.size) cw ⟨gPre_blind false GX As sx.1 sx.2 H.size, va_recv hK0 hP0 (cl_at false) (gW_ob false GX sx.1 sx.2), fun U hU hW => ⟨rfl, by rw [hU], by rw [hU]; exact hP0, va_K.moved hW.alike hK0, hD0.weaken (fun _ _ _ _ => trivial)⟩⟩ rfl hn hl.1 rfl (lv_room hw) hd ⟨Nat.le_refl _, Nat.le_refl _⟩) hP.2.2 (fun q _ h => hF q h) hF (fun r u t H1 locs1 ht hvm hp hB hz1 hk1 hS => ?_)
  obtain ⟨p1, d1⟩ := lj_join hP.1 hP.2.1 hk1 hF (by rw [← ht]; exact hB.1) hB.2.2
  exact kk r u hp ls H1 locs1 hl ⟨p1, d1, hS⟩
theorem k_callM (hJ : lR GX GM l b L xs J) {idx n nL2 f2 n2 : Nat} {y : MethodName} {cc2 : ByteArray} {rt : FieldType} {As : List Value} {post : Int32 → gS → Prop} (hk : gLk R_M R_law idx y cc2 nL2 (some rt) n) (hM : gM true GM l y cc2 nL2 (gRm f2 n2) rt As sm.1 sm.2 post) (hf : f2 + 1 ≤ 7) (hlo : 8 + (nL2 + 11) + n2 ≤ 232) (hn : As.length = n) (hst : st = As.reverse ++ Value.ref GM.1 :: rest) (hw : (rest.map fun v => v.category).sum ≤ 8) (hd : decode code pc = .ok (.invokevirtual idx, 3))
    (kk : ∀ (r : Int32) (u : gS), post r u → J (pc + 3) lv (.int r :: rest) sx u) : J pc lv st sx sm := by
  obtain ⟨p, e, s, m, below, meth, c, ⟨hx, hb, hr, hml, hown, hts, hX, hbl, hlocks, hK, hG⟩, rfl⟩ := hJ
  subst hst
  intro ls H locs hl hP
  obtain ⟨k1, k2, k3, k4, k5, k6, k7, k8⟩ := hk
  have hP0 : va_P GM.2.2.2.2 classes (gW true GM sm.1 sm.2) H := by rw [hG]; exact P_r hP.1
  have hD0 := D_r hP.2.1
  have hK0 := gK_eq hG hK
  have hF : ∀ q, va_A (gW true GM sm.1 sm.2) H.size q → s.heap.size ≤ q := fun q h => by
    rcases h with ⟨k, e, hk⟩ | h
    · exact hD0.2 k (q, e) hk
    · exact Nat.le_trans hP.2.2.1 h
  have cw : CallW room_1 s #[Value.ref b] R_law R_M idx y cc2 nL2 (some rt) (.code y cc2 nL2 (some rt) :: tW) (gRm f2 n2) 0 0 n :=
    ⟨callB_of n hts (gd_cons k2) rfl rfl rfl (by rw [k1]; exact hts _ k6) (hts _ k3) ⟨by rw [k1]; exact k7.1, by rw [k1]; exact k7.2, k8⟩ ⟨hf, hlo⟩, hts _ k4, hts _ k5⟩
  refine va_calli (va_runV (As := As) (rest := rest) ⟨hx, hb, hml, hown, hts⟩ (hM H.size) cw ⟨gPre_blind true GM As sm.1 sm.2 H.size, va_recv hK0 hP0 (cl_at true) (gW_ob true GM sm.1 sm.2), fun U hU hW => ⟨rfl, by rw [hU], by rw [hU]; exact hP0, va_K.moved hW.alike hK0, hD0.weaken (fun _ _ _ _ => trivial)⟩⟩ rfl hn hl.1 rfl (lv_room hw) hd ⟨Nat.le_refl _, Nat.le_refl _⟩) hP.2.2 (fun q _ h => hF q h) hF (fun r u t H1 locs1 ht hvm hp hB hz1 hk1 hS => ?_)
  have hB1 : va_P GX.2.2.2.2 classes (gW true GM u.1 u.2) H1 := by
    have h := hB.1
    rw [ht, hG] at h
    exact h
  obtain ⟨p1, d1⟩ := lj_join (P_sw hP.1) (D_sw hP.2.1) hk1 hF hB1 hB.2.2
  exact kk r u hp ls H1 locs1 hl ⟨P_sw p1, D_sw d1, hS⟩
end LR
end
section
-- the law's loop (by law.py)
theorem ok_put_ix {n : Nat} {x a : Int32} (h : ok_put n x a = true) : ix x ≤ n ∧ n < 12 := by
  unfold ok_put at h
  simp only [Bool.and_eq_true, decide_eq_true_eq] at h
  obtain ⟨k, hk, hk31, rfl⟩ := inB_of h.1.1
  rw [ix_nI hk31]
  exact ⟨by omega, h.2⟩
theorem inB_ix {n : Nat} {x : Int32} (h : inB n x = true) : ix x < n := by
  obtain ⟨k, hk, hk31, rfl⟩ := inB_of h
  rw [ix_nI hk31]
  exact hk
theorem ve_remove {n : Nat} {V V2 : Nat → Nat → Int32} (h : VE n V V2) (x : Int32) : q_remove n (V 5) x = q_remove n (V2 5) x := by
  unfold q_remove
  by_cases hx : inB n x = true
  · rw [if_pos hx, if_pos hx]
    exact h.1 _ (inB_ix hx) 2
  · rw [if_neg hx, if_neg hx]
theorem ve_change {n : Nat} {V V2 : Nat → Nat → Int32} (h : VE n V V2) (x a : Int32) : q_change n (V 5) x a = q_change n (V2 5) x a := by
  unfold q_change
  by_cases hx : inB n x = true
  · have e : V 5 (ix x) = V2 5 (ix x) := h.1 _ (inB_ix hx) 2
    rw [if_pos hx, if_pos hx, e]
  · rw [if_neg hx, if_neg hx]
theorem lw_more {i L : Nat} (hL : L ≤ 2560) (hi : i ≤ L) (h : ¬ nI L - nI 5 < nI i) : i + 5 ≤ L := by
  rw [Int32.lt_iff_toInt_lt, pk_sub_toInt (by omega) (by decide), nI_toInt (by omega)] at h
  omega
set_option maxHeartbeats 4000000 in
set_option maxRecDepth 100000 in
/-- THE LAW'S LOOP: at its head both objects hold the same -/
theorem law_loop {GX GM : gG} {l : Launch} {b L : Nat} {xs : Nat → Int32} {J : lJT} (hL : L ≤ 2560) (hJ : lR GX GM l b L xs J) : ∀ (d i n : Nat) (sx sm : gS), i ≤ L → L + 1 ≤ i + d → LI n sx sm → J 18 [(0, .ref b), (1, .ref GX.1), (2, .ref GM.1), (3, .int (nI i))] [] sx sm := by
  have hL31 : L < 2 ^ 31 := by omega
  intro d
  induction d with
  | zero =>
    intro i n sx sm hi hd
    omega
  | succ d ih =>
    intro i n sx sm hi hd hI
    refine k_iload_n hJ d_law_law_18 rfl ?_
    refine k_aload_n hJ d_law_law_19 rfl ?_
    refine k_len hJ d_law_law_20 ?_
    refine k_iconst hJ (v := nI 5) d_law_law_21 (by decide) ?_
    refine k_isub hJ d_law_law_22 ?_
    refine k_gt hJ (tgt := 593) d_law_law_23 (by decide) (fun c0 => ?_) (fun c0 => ?_)
    · refine k_iconst hJ (v := 1) d_law_law_593 (by decide) ?_
      exact k_ret hJ d_law_law_594
    have hi5 := lw_more hL hi c0
    have nxt : ∀ (n2 : Nat) (sx2 sm2 : gS), LI n2 sx2 sm2 → J 587 [(0, .ref b), (1, .ref GX.1), (2, .ref GM.1), (3, .int (nI i))] [] sx2 sm2 := fun n2 sx2 sm2 h2 => by
      refine k_inc hJ (k := 5) (lv2 := [(0, .ref b), (1, .ref GX.1), (2, .ref GM.1), (3, .int (nI (i + 5)))]) d_law_law_587 rfl (by decide) (by decide) rfl rfl ?_
      refine k_goto hJ (tgt := 18) d_law_law_590 (by decide) ?_
      exact ih (i + 5) n2 sx2 sm2 (by omega) (by omega) h2
    have hX1 := hI.1
    have hM1 := hI.2.1
    have hn12 := hI.2.2.1
    have hVx := hI.vx
    have hVm := hI.vm
    have hve := hI.ve
    have hXC := hI.2.2.2.2.2.2.2.2.2
    have h26 := hI.2.2.2.2.2.2.1
    refine k_aload_n hJ d_law_law_26 rfl ?_
    refine k_iload_n hJ d_law_law_27 rfl ?_
    refine k_sld hJ (by omega) hL31 d_law_law_28 ?_
    refine k_bipush hJ (v := nI 31) d_law_law_29 (by decide) ?_
    refine k_iand hJ d_law_law_31 ?_
    obtain ⟨j, hj, ej⟩ := pk_andE (xs i) 5 (m := nI 31) (by decide)
    refine k_top ej ?_
    by_cases h17 : 17 ≤ j
    · exact k_out hJ (tgt := 587) d_law_law_32 (Or.inr (by rw [nI_toInt (by omega)]; omega)) (by decide) (nxt n sx sm hI)
    rcases (show j = 0 ∨ j = 1 ∨ j = 2 ∨ j = 3 ∨ j = 4 ∨ j = 5 ∨ j = 6 ∨ j = 7 ∨ j = 8 ∨ j = 9 ∨ j = 10 ∨ j = 11 ∨ j = 12 ∨ j = 13 ∨ j = 14 ∨ j = 15 ∨ j = 16 by omega) with rfl | rfl | rfl | rfl | rfl | rfl | rfl | rfl | rfl | rfl | rfl | rfl | rfl | rfl | rfl | rfl | rfl
    · refine k_in hJ (off := 84) (tgt := 116) d_law_law_32 (by decide +kernel) (by decide +kernel) (by decide +kernel) (by decide) ?_
      refine k_aload_n hJ d_law_law_116 rfl ?_
      refine k_arg hJ (q := 1) hL31 rfl rfl d_law_law_117 d_law_law_118 d_law_law_119 (by decide) d_law_law_120 d_law_law_121 (by omega) ?_
      refine k_arg hJ (q := 2) hL31 rfl rfl d_law_law_122 d_law_law_123 d_law_law_124 (by decide) d_law_law_125 d_law_law_126 (by omega) ?_
      refine k_callX hJ k_law_X_range (c_X_range GX l sx.1 sx.2  (xs (i + 1)) (xs (i + 2))) (by decide) (by decide) rfl (rest := []) rfl (by decide) d_law_law_127 (fun r1 u1 h1 => ?_)
      refine k_aload_n hJ d_law_law_130 rfl ?_
      refine k_arg hJ (q := 1) hL31 rfl rfl d_law_law_131 d_law_law_132 d_law_law_133 (by decide) d_law_law_134 d_law_law_135 (by omega) ?_
      refine k_arg hJ (q := 2) hL31 rfl rfl d_law_law_136 d_law_law_137 d_law_law_138 (by decide) d_law_law_139 d_law_law_140 (by omega) ?_
      refine k_callM hJ k_law_M_range (c_M_range GM l sm.1 sm.2  (xs (i + 1)) (xs (i + 2))) (by decide) (by decide) rfl (rest := [.int r1]) rfl (Nat.le_of_ble_eq_true rfl) d_law_law_141 (fun r2 u2 h2 => ?_)
      refine k_eq hJ (tgt := 587) d_law_law_144 (by decide) (h1.1.trans h2.1.symm) ?_
      have e1 := h1.2
      have e2 := h2.2
      by_cases ok : ok_range (xs (i + 1)) (xs (i + 2)) = true
      · rw [if_pos ok] at e1 e2
        subst e1 e2
        exact nxt n _ _ (LI_range hI ok)
      · rw [if_neg ok] at e1 e2
        subst e1 e2
        exact nxt n _ _ hI
    · refine k_in hJ (off := 117) (tgt := 149) d_law_law_32 (by decide +kernel) (by decide +kernel) (by decide +kernel) (by decide) ?_
      refine k_aload_n hJ d_law_law_149 rfl ?_
      refine k_arg hJ (q := 1) hL31 rfl rfl d_law_law_150 d_law_law_151 d_law_law_152 (by decide) d_law_law_153 d_law_law_154 (by omega) ?_
      refine k_arg hJ (q := 2) hL31 rfl rfl d_law_law_155 d_law_law_156 d_law_law_157 (by decide) d_law_law_158 d_law_law_159 (by omega) ?_
      refine k_arg hJ (q := 3) hL31 rfl rfl d_law_law_160 d_law_law_161 d_law_law_162 (by decide) d_law_law_163 d_law_law_164 (by omega) ?_
      refine k_arg hJ (q := 4) hL31 rfl rfl d_law_law_165 d_law_law_166 d_law_law_167 (by decide) d_law_law_168 d_law_law_169 (by omega) ?_
      refine k_callX hJ k_law_X_condition (c_X_condition GX l sx.1 sx.2  (xs (i + 1)) (xs (i + 2)) (xs (i + 3)) (xs (i + 4))) (by decide) (by decide) rfl (rest := []) rfl (by decide) d_law_law_170 (fun r1 u1 h1 => ?_)
      refine k_aload_n hJ d_law_law_173 rfl ?_
      refine k_arg hJ (q := 1) hL31 rfl rfl d_law_law_174 d_law_law_175 d_law_law_176 (by decide) d_law_law_177 d_law_law_178 (by omega) ?_
      refine k_arg hJ (q := 2) hL31 rfl rfl d_law_law_179 d_law_law_180 d_law_law_181 (by decide) d_law_law_182 d_law_law_183 (by omega) ?_
      refine k_arg hJ (q := 3) hL31 rfl rfl d_law_law_184 d_law_law_185 d_law_law_186 (by decide) d_law_law_187 d_law_law_188 (by omega) ?_
      refine k_arg hJ (q := 4) hL31 rfl rfl d_law_law_189 d_law_law_190 d_law_law_191 (by decide) d_law_law_192 d_law_law_193 (by omega) ?_
      refine k_callM hJ k_law_M_condition (c_M_condition GM l sm.1 sm.2  (xs (i + 1)) (xs (i + 2)) (xs (i + 3)) (xs (i + 4))) (by decide) (by decide) rfl (rest := [.int r1]) rfl (Nat.le_of_ble_eq_true rfl) d_law_law_194 (fun r2 u2 h2 => ?_)
      refine k_eq hJ (tgt := 587) d_law_law_197 (by decide) (h1.1.trans h2.1.symm) ?_
      have e1 := h1.2
      have e2 := h2.2
      by_cases ok : (inB 2 (xs (i + 1)) && ok_what (xs (i + 2))) = true
      · rw [if_pos ok] at e1 e2
        subst e1 e2
        exact nxt n _ _ (LI_cond hI ok)
      · rw [if_neg ok] at e1 e2
        subst e1 e2
        exact nxt n _ _ hI
    · refine k_in hJ (off := 170) (tgt := 202) d_law_law_32 (by decide +kernel) (by decide +kernel) (by decide +kernel) (by decide) ?_
      refine k_aload_n hJ d_law_law_202 rfl ?_
      refine k_arg hJ (q := 1) hL31 rfl rfl d_law_law_203 d_law_law_204 d_law_law_205 (by decide) d_law_law_206 d_law_law_207 (by omega) ?_
      refine k_arg hJ (q := 2) hL31 rfl rfl d_law_law_208 d_law_law_209 d_law_law_210 (by decide) d_law_law_211 d_law_law_212 (by omega) ?_
      refine k_callX hJ k_law_X_put (c_X_put GX l sx.1 sx.2 n hX1 hn12 (xs (i + 1)) (xs (i + 2))) (by decide) (by decide) rfl (rest := []) rfl (by decide) d_law_law_213 (fun r1 u1 h1 => ?_)
      refine k_aload_n hJ d_law_law_216 rfl ?_
      refine k_arg hJ (q := 1) hL31 rfl rfl d_law_law_217 d_law_law_218 d_law_law_219 (by decide) d_law_law_220 d_law_law_221 (by omega) ?_
      refine k_arg hJ (q := 2) hL31 rfl rfl d_law_law_222 d_law_law_223 d_law_law_224 (by decide) d_law_law_225 d_law_law_226 (by omega) ?_
      refine k_callM hJ k_law_M_put (c_M_put GM l sm.1 sm.2 n hM1 hn12 (xs (i + 1)) (xs (i + 2))) (by decide) (by decide) rfl (rest := [.int r1]) rfl (Nat.le_of_ble_eq_true rfl) d_law_law_227 (fun r2 u2 h2 => ?_)
      refine k_eq hJ (tgt := 587) d_law_law_230 (by decide) (h1.1.trans h2.1.symm) ?_
      have e1 := h1.2
      have e2 := h2.2
      by_cases ok : ok_put n (xs (i + 1)) (xs (i + 2)) = true
      · rw [if_pos ok] at e1 e2
        subst e1 e2
        exact nxt (n + 1) _ _ (LI_put hI (ok_put_ix ok).1 (ok_put_ix ok).2)
      · rw [if_neg ok] at e1 e2
        subst e1 e2
        exact nxt n _ _ hI
    · refine k_in hJ (off := 203) (tgt := 235) d_law_law_32 (by decide +kernel) (by decide +kernel) (by decide +kernel) (by decide) ?_
      refine k_aload_n hJ d_law_law_235 rfl ?_
      refine k_arg hJ (q := 1) hL31 rfl rfl d_law_law_236 d_law_law_237 d_law_law_238 (by decide) d_law_law_239 d_law_law_240 (by omega) ?_
      refine k_callX hJ k_law_X_remove (c_X_remove GX l sx.1 sx.2 n hX1 hn12 (xs (i + 1))) (by decide) (by decide) rfl (rest := []) rfl (by decide) d_law_law_241 (fun r1 u1 h1 => ?_)
      refine k_aload_n hJ d_law_law_244 rfl ?_
      refine k_arg hJ (q := 1) hL31 rfl rfl d_law_law_245 d_law_law_246 d_law_law_247 (by decide) d_law_law_248 d_law_law_249 (by omega) ?_
      refine k_callM hJ k_law_M_remove (c_M_remove GM l sm.1 sm.2 n hM1 hn12 (xs (i + 1))) (by decide) (by decide) rfl (rest := [.int r1]) rfl (Nat.le_of_ble_eq_true rfl) d_law_law_250 (fun r2 u2 h2 => ?_)
      refine k_eq hJ (tgt := 587) d_law_law_253 (by decide) (h1.1.trans ((ve_remove hve _).trans h2.1.symm)) ?_
      have e1 := h1.2
      have e2 := h2.2
      by_cases ok : inB n (xs (i + 1)) = true
      · rw [if_pos ok] at e1 e2
        subst e1 e2
        exact nxt (n - 1) _ _ (LI_remove hI (inB_ix ok))
      · rw [if_neg ok] at e1 e2
        subst e1 e2
        exact nxt n _ _ hI
    · refine k_in hJ (off := 226) (tgt := 258) d_law_law_32 (by decide +kernel) (by decide +kernel) (by decide +kernel) (by decide) ?_
      refine k_aload_n hJ d_law_law_258 rfl ?_
      refine k_arg hJ (q := 1) hL31 rfl rfl d_law_law_259 d_law_law_260 d_law_law_261 (by decide) d_law_law_262 d_law_law_263 (by omega) ?_
      refine k_arg hJ (q := 2) hL31 rfl rfl d_law_law_264 d_law_law_265 d_law_law_266 (by decide) d_law_law_267 d_law_law_268 (by omega) ?_
      refine k_callX hJ k_law_X_move (c_X_move GX l sx.1 sx.2 n hX1 hn12 (xs (i + 1)) (xs (i + 2))) (by decide) (by decide) rfl (rest := []) rfl (by decide) d_law_law_269 (fun r1 u1 h1 => ?_)
      refine k_aload_n hJ d_law_law_272 rfl ?_
      refine k_arg hJ (q := 1) hL31 rfl rfl d_law_law_273 d_law_law_274 d_law_law_275 (by decide) d_law_law_276 d_law_law_277 (by omega) ?_
      refine k_arg hJ (q := 2) hL31 rfl rfl d_law_law_278 d_law_law_279 d_law_law_280 (by decide) d_law_law_281 d_law_law_282 (by omega) ?_
      refine k_callM hJ k_law_M_move (c_M_move GM l sm.1 sm.2 n hM1 hn12 (xs (i + 1)) (xs (i + 2))) (by decide) (by decide) rfl (rest := [.int r1]) rfl (Nat.le_of_ble_eq_true rfl) d_law_law_283 (fun r2 u2 h2 => ?_)
      refine k_eq hJ (tgt := 587) d_law_law_286 (by decide) (h1.1.trans h2.1.symm) ?_
      have e1 := h1.2
      have e2 := h2.2
      by_cases ok : (inB n (xs (i + 1)) && inB n (xs (i + 2))) = true
      · rw [if_pos ok] at e1 e2
        subst e1 e2
        simp only [Bool.and_eq_true] at ok
        exact nxt n _ _ (LI_move hI (inB_ix ok.1) (inB_ix ok.2))
      · rw [if_neg ok] at e1 e2
        subst e1 e2
        exact nxt n _ _ hI
    · refine k_in hJ (off := 259) (tgt := 291) d_law_law_32 (by decide +kernel) (by decide +kernel) (by decide +kernel) (by decide) ?_
      refine k_aload_n hJ d_law_law_291 rfl ?_
      refine k_arg hJ (q := 1) hL31 rfl rfl d_law_law_292 d_law_law_293 d_law_law_294 (by decide) d_law_law_295 d_law_law_296 (by omega) ?_
      refine k_arg hJ (q := 2) hL31 rfl rfl d_law_law_297 d_law_law_298 d_law_law_299 (by decide) d_law_law_300 d_law_law_301 (by omega) ?_
      refine k_callX hJ k_law_X_change (c_X_change GX l sx.1 sx.2 n hX1 hn12 (xs (i + 1)) (xs (i + 2))) (by decide) (by decide) rfl (rest := []) rfl (by decide) d_law_law_302 (fun r1 u1 h1 => ?_)
      refine k_aload_n hJ d_law_law_305 rfl ?_
      refine k_arg hJ (q := 1) hL31 rfl rfl d_law_law_306 d_law_law_307 d_law_law_308 (by decide) d_law_law_309 d_law_law_310 (by omega) ?_
      refine k_arg hJ (q := 2) hL31 rfl rfl d_law_law_311 d_law_law_312 d_law_law_313 (by decide) d_law_law_314 d_law_law_315 (by omega) ?_
      refine k_callM hJ k_law_M_change (c_M_change GM l sm.1 sm.2 n hM1 hn12 (xs (i + 1)) (xs (i + 2))) (by decide) (by decide) rfl (rest := [.int r1]) rfl (Nat.le_of_ble_eq_true rfl) d_law_law_316 (fun r2 u2 h2 => ?_)
      refine k_eq hJ (tgt := 587) d_law_law_319 (by decide) (h1.1.trans ((ve_change hve _ _).trans h2.1.symm)) ?_
      have e1 := h1.2
      have e2 := h2.2
      by_cases ok : (inB n (xs (i + 1)) && inB 4 (xs (i + 2))) = true
      · rw [if_pos ok] at e1 e2
        subst e1 e2
        simp only [Bool.and_eq_true] at ok
        exact nxt n _ _ (LI_change hI (inB_ix ok.1))
      · rw [if_neg ok] at e1 e2
        subst e1 e2
        exact nxt n _ _ hI
    · refine k_in hJ (off := 292) (tgt := 324) d_law_law_32 (by decide +kernel) (by decide +kernel) (by decide +kernel) (by decide) ?_
      refine k_aload_n hJ d_law_law_324 rfl ?_
      refine k_arg hJ (q := 1) hL31 rfl rfl d_law_law_325 d_law_law_326 d_law_law_327 (by decide) d_law_law_328 d_law_law_329 (by omega) ?_
      refine k_callX hJ k_law_X_fallback (c_X_fallback GX l sx.1 sx.2  (xs (i + 1))) (by decide) (by decide) rfl (rest := []) rfl (by decide) d_law_law_330 (fun r1 u1 h1 => ?_)
      refine k_aload_n hJ d_law_law_333 rfl ?_
      refine k_arg hJ (q := 1) hL31 rfl rfl d_law_law_334 d_law_law_335 d_law_law_336 (by decide) d_law_law_337 d_law_law_338 (by omega) ?_
      refine k_callM hJ k_law_M_fallback (c_M_fallback GM l sm.1 sm.2  (xs (i + 1))) (by decide) (by decide) rfl (rest := [.int r1]) rfl (Nat.le_of_ble_eq_true rfl) d_law_law_339 (fun r2 u2 h2 => ?_)
      refine k_eq hJ (tgt := 587) d_law_law_342 (by decide) (by rw [h1.1, h2.1, h26]) ?_
      have e1 := h1.2
      have e2 := h2.2
      by_cases ok : inB 4 (xs (i + 1)) = true
      · rw [if_pos ok] at e1 e2
        subst e1 e2
        exact nxt n _ _ (LI_fall hI)
      · rw [if_neg ok] at e1 e2
        subst e1 e2
        exact nxt n _ _ hI
    · refine k_in hJ (off := 315) (tgt := 347) d_law_law_32 (by decide +kernel) (by decide +kernel) (by decide +kernel) (by decide) ?_
      refine k_aload_n hJ d_law_law_347 rfl ?_
      refine k_callX hJ k_law_X_rules (c_X_rules GX l sx.1 sx.2  ) (by decide) (by decide) rfl (rest := []) rfl (by decide) d_law_law_348 (fun r1 u1 h1 => ?_)
      refine k_aload_n hJ d_law_law_351 rfl ?_
      refine k_callM hJ k_law_M_rules (c_M_rules GM l sm.1 sm.2  ) (by decide) (by decide) rfl (rest := [.int r1]) rfl (Nat.le_of_ble_eq_true rfl) d_law_law_352 (fun r2 u2 h2 => ?_)
      refine k_eq hJ (tgt := 587) d_law_law_355 (by decide) (h1.1.trans (hX1.trans (hM1.symm.trans h2.1.symm))) ?_
      have e1 := h1.2
      have e2 := h2.2
      subst e1 e2
      exact nxt n _ _ hI
    · refine k_in hJ (off := 328) (tgt := 360) d_law_law_32 (by decide +kernel) (by decide +kernel) (by decide +kernel) (by decide) ?_
      refine k_aload_n hJ d_law_law_360 rfl ?_
      refine k_arg hJ (q := 1) hL31 rfl rfl d_law_law_361 d_law_law_362 d_law_law_363 (by decide) d_law_law_364 d_law_law_365 (by omega) ?_
      refine k_arg hJ (q := 2) hL31 rfl rfl d_law_law_366 d_law_law_367 d_law_law_368 (by decide) d_law_law_369 d_law_law_370 (by omega) ?_
      refine k_callX hJ k_law_X_argument (c_X_argument GX l sx.1 sx.2  (xs (i + 1)) (xs (i + 2))) (by decide) (by decide) rfl (rest := []) rfl (by decide) d_law_law_371 (fun r1 u1 h1 => ?_)
      refine k_aload_n hJ d_law_law_374 rfl ?_
      refine k_arg hJ (q := 1) hL31 rfl rfl d_law_law_375 d_law_law_376 d_law_law_377 (by decide) d_law_law_378 d_law_law_379 (by omega) ?_
      refine k_arg hJ (q := 2) hL31 rfl rfl d_law_law_380 d_law_law_381 d_law_law_382 (by decide) d_law_law_383 d_law_law_384 (by omega) ?_
      refine k_callM hJ k_law_M_argument (c_M_argument GM l sm.1 sm.2  (xs (i + 1)) (xs (i + 2))) (by decide) (by decide) rfl (rest := [.int r1]) rfl (Nat.le_of_ble_eq_true rfl) d_law_law_385 (fun r2 u2 h2 => ?_)
      refine k_eq hJ (tgt := 587) d_law_law_388 (by decide) (h1.1.trans h2.1.symm) ?_
      have e1 := h1.2
      have e2 := h2.2
      by_cases ok : inB 2 (xs (i + 1)) = true
      · rw [if_pos ok] at e1 e2
        subst e1 e2
        exact nxt n _ _ (LI_arg hI)
      · rw [if_neg ok] at e1 e2
        subst e1 e2
        exact nxt n _ _ hI
    · refine k_in hJ (off := 361) (tgt := 393) d_law_law_32 (by decide +kernel) (by decide +kernel) (by decide +kernel) (by decide) ?_
      refine k_aload_n hJ d_law_law_393 rfl ?_
      refine k_arg hJ (q := 1) hL31 rfl rfl d_law_law_394 d_law_law_395 d_law_law_396 (by decide) d_law_law_397 d_law_law_398 (by omega) ?_
      refine k_callX hJ k_law_X_decide (c_X_decide GX l sx.1 sx.2 n hX1 hVx hXC (xs (i + 1))) (by decide) (by decide) rfl (rest := []) rfl (by decide) d_law_law_399 (fun r1 u1 h1 => ?_)
      refine k_aload_n hJ d_law_law_402 rfl ?_
      refine k_arg hJ (q := 1) hL31 rfl rfl d_law_law_403 d_law_law_404 d_law_law_405 (by decide) d_law_law_406 d_law_law_407 (by omega) ?_
      refine k_callM hJ k_law_M_decide (c_M_decide GM l sm.1 sm.2 n hM1 hVm (xs (i + 1))) (by decide) (by decide) rfl (rest := [.int r1]) rfl (Nat.le_of_ble_eq_true rfl) d_law_law_408 (fun r2 u2 h2 => ?_)
      refine k_eq hJ (tgt := 587) d_law_law_411 (by decide) (by rw [h1.1, h2.1, ← h26]; exact ve_decide hve hVx _ _) ?_
      have e1 := h1.2
      have e2 := h2.2
      subst e2
      exact nxt n _ _ (LI_q hI e1)
    · refine k_in hJ (off := 384) (tgt := 416) d_law_law_32 (by decide +kernel) (by decide +kernel) (by decide +kernel) (by decide) ?_
      refine k_aload_n hJ d_law_law_416 rfl ?_
      refine k_arg hJ (q := 1) hL31 rfl rfl d_law_law_417 d_law_law_418 d_law_law_419 (by decide) d_law_law_420 d_law_law_421 (by omega) ?_
      refine k_callX hJ k_law_X_matched (c_X_matched GX l sx.1 sx.2 n hX1 hVx hXC (xs (i + 1))) (by decide) (by decide) rfl (rest := []) rfl (by decide) d_law_law_422 (fun r1 u1 h1 => ?_)
      refine k_aload_n hJ d_law_law_425 rfl ?_
      refine k_arg hJ (q := 1) hL31 rfl rfl d_law_law_426 d_law_law_427 d_law_law_428 (by decide) d_law_law_429 d_law_law_430 (by omega) ?_
      refine k_callM hJ k_law_M_matched (c_M_matched GM l sm.1 sm.2 n hM1 hVm (xs (i + 1))) (by decide) (by decide) rfl (rest := [.int r1]) rfl (Nat.le_of_ble_eq_true rfl) d_law_law_431 (fun r2 u2 h2 => ?_)
      refine k_eq hJ (tgt := 587) d_law_law_434 (by decide) (h1.1.trans ((ve_matched hve hVx _).trans h2.1.symm)) ?_
      have e1 := h1.2
      have e2 := h2.2
      subst e2
      exact nxt n _ _ (LI_q hI e1)
    · refine k_in hJ (off := 407) (tgt := 439) d_law_law_32 (by decide +kernel) (by decide +kernel) (by decide +kernel) (by decide) ?_
      refine k_aload_n hJ d_law_law_439 rfl ?_
      refine k_arg hJ (q := 1) hL31 rfl rfl d_law_law_440 d_law_law_441 d_law_law_442 (by decide) d_law_law_443 d_law_law_444 (by omega) ?_
      refine k_arg hJ (q := 2) hL31 rfl rfl d_law_law_445 d_law_law_446 d_law_law_447 (by decide) d_law_law_448 d_law_law_449 (by omega) ?_
      refine k_arg hJ (q := 3) hL31 rfl rfl d_law_law_450 d_law_law_451 d_law_law_452 (by decide) d_law_law_453 d_law_law_454 (by omega) ?_
      refine k_callX hJ k_law_X_countWith (c_X_countWith GX l sx.1 sx.2 n hX1 hVx hXC (xs (i + 1)) (xs (i + 2)) (xs (i + 3))) (by decide) (by decide) rfl (rest := []) rfl (by decide) d_law_law_455 (fun r1 u1 h1 => ?_)
      refine k_aload_n hJ d_law_law_458 rfl ?_
      refine k_arg hJ (q := 1) hL31 rfl rfl d_law_law_459 d_law_law_460 d_law_law_461 (by decide) d_law_law_462 d_law_law_463 (by omega) ?_
      refine k_arg hJ (q := 2) hL31 rfl rfl d_law_law_464 d_law_law_465 d_law_law_466 (by decide) d_law_law_467 d_law_law_468 (by omega) ?_
      refine k_arg hJ (q := 3) hL31 rfl rfl d_law_law_469 d_law_law_470 d_law_law_471 (by decide) d_law_law_472 d_law_law_473 (by omega) ?_
      refine k_callM hJ k_law_M_countWith (c_M_countWith GM l sm.1 sm.2 n hM1 hVm (xs (i + 1)) (xs (i + 2)) (xs (i + 3))) (by decide) (by decide) rfl (rest := [.int r1]) rfl (Nat.le_of_ble_eq_true rfl) d_law_law_474 (fun r2 u2 h2 => ?_)
      refine k_eq hJ (tgt := 587) d_law_law_477 (by decide) (by rw [h1.1, h2.1, ← h26]; exact ve_count hve hVx _ _ _ _) ?_
      have e1 := h1.2
      have e2 := h2.2
      subst e2
      exact nxt n _ _ (LI_q hI e1)
    · refine k_in hJ (off := 450) (tgt := 482) d_law_law_32 (by decide +kernel) (by decide +kernel) (by decide +kernel) (by decide) ?_
      refine k_aload_n hJ d_law_law_482 rfl ?_
      refine k_arg hJ (q := 1) hL31 rfl rfl d_law_law_483 d_law_law_484 d_law_law_485 (by decide) d_law_law_486 d_law_law_487 (by omega) ?_
      refine k_arg hJ (q := 2) hL31 rfl rfl d_law_law_488 d_law_law_489 d_law_law_490 (by decide) d_law_law_491 d_law_law_492 (by omega) ?_
      refine k_callX hJ k_law_X_nextWith (c_X_nextWith GX l sx.1 sx.2 n hX1 hVx hXC (xs (i + 1)) (xs (i + 2))) (by decide) (by decide) rfl (rest := []) rfl (by decide) d_law_law_493 (fun r1 u1 h1 => ?_)
      refine k_aload_n hJ d_law_law_496 rfl ?_
      refine k_arg hJ (q := 1) hL31 rfl rfl d_law_law_497 d_law_law_498 d_law_law_499 (by decide) d_law_law_500 d_law_law_501 (by omega) ?_
      refine k_arg hJ (q := 2) hL31 rfl rfl d_law_law_502 d_law_law_503 d_law_law_504 (by decide) d_law_law_505 d_law_law_506 (by omega) ?_
      refine k_callM hJ k_law_M_nextWith (c_M_nextWith GM l sm.1 sm.2 n hM1 hVm (xs (i + 1)) (xs (i + 2))) (by decide) (by decide) rfl (rest := [.int r1]) rfl (Nat.le_of_ble_eq_true rfl) d_law_law_507 (fun r2 u2 h2 => ?_)
      refine k_eq hJ (tgt := 587) d_law_law_510 (by decide) (by rw [h1.1, h2.1, ← h26]; exact ve_next hve hVx _ _ _) ?_
      have e1 := h1.2
      have e2 := h2.2
      subst e2
      exact nxt n _ _ (LI_q hI e1)
    · refine k_in hJ (off := 483) (tgt := 515) d_law_law_32 (by decide +kernel) (by decide +kernel) (by decide +kernel) (by decide) ?_
      refine k_aload_n hJ d_law_law_515 rfl ?_
      refine k_arg hJ (q := 1) hL31 rfl rfl d_law_law_516 d_law_law_517 d_law_law_518 (by decide) d_law_law_519 d_law_law_520 (by omega) ?_
      refine k_callX hJ k_law_X_matching (c_X_matching GX l sx.1 sx.2 n hX1 hVx hXC (xs (i + 1))) (by decide) (by decide) rfl (rest := []) rfl (by decide) d_law_law_521 (fun r1 u1 h1 => ?_)
      refine k_aload_n hJ d_law_law_524 rfl ?_
      refine k_arg hJ (q := 1) hL31 rfl rfl d_law_law_525 d_law_law_526 d_law_law_527 (by decide) d_law_law_528 d_law_law_529 (by omega) ?_
      refine k_callM hJ k_law_M_matching (c_M_matching GM l sm.1 sm.2 n hM1 hVm (xs (i + 1))) (by decide) (by decide) rfl (rest := [.int r1]) rfl (Nat.le_of_ble_eq_true rfl) d_law_law_530 (fun r2 u2 h2 => ?_)
      refine k_eq hJ (tgt := 587) d_law_law_533 (by decide) (h1.1.trans ((ve_matching hve hVx _).trans h2.1.symm)) ?_
      have e1 := h1.2
      have e2 := h2.2
      subst e2
      exact nxt n _ _ (LI_q hI e1)
    · refine k_in hJ (off := 506) (tgt := 538) d_law_law_32 (by decide +kernel) (by decide +kernel) (by decide +kernel) (by decide) ?_
      refine k_aload_n hJ d_law_law_538 rfl ?_
      refine k_arg hJ (q := 1) hL31 rfl rfl d_law_law_539 d_law_law_540 d_law_law_541 (by decide) d_law_law_542 d_law_law_543 (by omega) ?_
      refine k_callX hJ k_law_X_hidden (c_X_hidden GX l sx.1 sx.2 n hX1 hVx hXC (xs (i + 1))) (by decide) (by decide) rfl (rest := []) rfl (by decide) d_law_law_544 (fun r1 u1 h1 => ?_)
      refine k_aload_n hJ d_law_law_547 rfl ?_
      refine k_arg hJ (q := 1) hL31 rfl rfl d_law_law_548 d_law_law_549 d_law_law_550 (by decide) d_law_law_551 d_law_law_552 (by omega) ?_
      refine k_callM hJ k_law_M_hidden (c_M_hidden GM l sm.1 sm.2 n hM1 hVm (xs (i + 1))) (by decide) (by decide) rfl (rest := [.int r1]) rfl (Nat.le_of_ble_eq_true rfl) d_law_law_553 (fun r2 u2 h2 => ?_)
      refine k_eq hJ (tgt := 587) d_law_law_556 (by decide) (h1.1.trans ((ve_hidden hve hVx _).trans h2.1.symm)) ?_
      have e1 := h1.2
      have e2 := h2.2
      subst e2
      exact nxt n _ _ (LI_q hI e1)
    · refine k_in hJ (off := 529) (tgt := 561) d_law_law_32 (by decide +kernel) (by decide +kernel) (by decide +kernel) (by decide) ?_
      refine k_aload_n hJ d_law_law_561 rfl ?_
      refine k_callX hJ k_law_X_stretches (c_X_stretches GX l sx.1 sx.2 n hX1 hVx hXC ) (by decide) (by decide) rfl (rest := []) rfl (by decide) d_law_law_562 (fun r1 u1 h1 => ?_)
      refine k_aload_n hJ d_law_law_565 rfl ?_
      refine k_callM hJ k_law_M_stretches (c_M_stretches GM l sm.1 sm.2 n hM1 hVm ) (by decide) (by decide) rfl (rest := [.int r1]) rfl (Nat.le_of_ble_eq_true rfl) d_law_law_566 (fun r2 u2 h2 => ?_)
      refine k_eq hJ (tgt := 587) d_law_law_569 (by decide) (h1.1.trans ((ve_stretches hve).trans h2.1.symm)) ?_
      have e1 := h1.2
      have e2 := h2.2
      subst e2
      exact nxt n _ _ (LI_q hI e1)
    · refine k_in hJ (off := 542) (tgt := 574) d_law_law_32 (by decide +kernel) (by decide +kernel) (by decide +kernel) (by decide) ?_
      refine k_aload_n hJ d_law_law_574 rfl ?_
      refine k_callX hJ k_law_X_open (c_X_open GX l sx.1 sx.2 n hX1 hVx hXC ) (by decide) (by decide) rfl (rest := []) rfl (by decide) d_law_law_575 (fun r1 u1 h1 => ?_)
      refine k_aload_n hJ d_law_law_578 rfl ?_
      refine k_callM hJ k_law_M_open (c_M_open GM l sm.1 sm.2 n hM1 hVm ) (by decide) (by decide) rfl (rest := [.int r1]) rfl (Nat.le_of_ble_eq_true rfl) d_law_law_579 (fun r2 u2 h2 => ?_)
      refine k_eq hJ (tgt := 587) d_law_law_582 (by decide) (h1.1.trans ((ve_open hve).trans h2.1.symm)) ?_
      have e1 := h1.2
      have e2 := h2.2
      subst e2
      exact nxt n _ _ (LI_q hI e1)
end
section
-- the constructors (by ctor.py)
abbrev oJT : Type := Nat → List Value → va_W → Nat → Nat → Prop
def oJ (p : Program) (l : Launch) (e : Env) (R : Room) (s : State) (m : MethodId) (args : Array Value) (below : List Frame) (meth : Method) (c : Code) (D : va_G) (A : Nat → Prop) (Q : State → Prop) (ls : Array Slot) : oJT := fun pc st ws cells slots =>
  ∀ (H : Heap) (locs : List Loc), va_P D classes ws H → va_D A ws → va_S A s.heap H locs → W p l e R s m args below meth c H locs cells slots Q (F0 m pc ls st)
def oT (kI kZ : ClassId) : List (ClassId × FieldType) := [(kI, .int), (kZ, .boolean)]
def oR (κ : Bool) (D : va_G) (kI kZ : ClassId) (l : Launch) (R : Room) (cc : ByteArray) (h : Nat) (J : oJT) : Prop :=
  ∃ (p : Program) (e : Env) (s : State) (m : MethodId) (args : Array Value) (below : List Frame) (meth : Method) (c : Code) (A : Nat → Prop) (Q : State → Prop) (ls : Array Slot), (p.tables.exec = Jvm.exec ∧ c.code = cc ∧ c.maxLocals = 1 ∧ s.vm.findClass (cR κ) = some m.cls ∧ (∀ w ∈ tW, w.before args s = true) ∧ va_K D classes (oT kI kZ) s ∧ (∀ q, s.heap.size ≤ q → A q) ∧ meth.name = "<init>" ∧ lv_has ls 1 [(0, .ref h)]) ∧ J = oJ p l e R s m args below meth c D A Q ls
section OR
variable {κ : Bool} {D : va_G} {kI kZ : ClassId} {l : Launch} {R : Room} {cc : ByteArray} {h : Nat} {J : oJT} {pc : Nat} {st : List Value} {ws : va_W} {cells slots : Nat}
theorem o_aload (hJ : oR κ D kI kZ l R cc h J) (hd : decode cc pc = .ok (.aload_n 0, 1)) (kk : J (pc + 1) (.ref h :: st) ws cells slots) : J pc st ws cells slots := by
  obtain ⟨p, e, s, m, args, below, meth, c, A, Q, ls, ⟨hx, hb, hml, hown, hts, hK, hA, hin, hl⟩, rfl⟩ := hJ
  intro H locs hP hD hS
  exact lv_aload_n hx hb hd rfl (lv_at hl 0 rfl) (kk H locs hP hD hS)
theorem o_iconst (hJ : oR κ D kI kZ l R cc h J) {n : Int} {v : Int32} (hd : decode cc pc = .ok (.iconst n, 1)) (hv : Int32.ofInt n = v) (kk : J (pc + 1) (.int v :: st) ws cells slots) : J pc st ws cells slots := by
  obtain ⟨p, e, s, m, args, below, meth, c, A, Q, ls, ⟨hx, hb, hml, hown, hts, hK, hA, hin, hl⟩, rfl⟩ := hJ
  intro H locs hP hD hS
  exact lv_iconst hx hb hd hv (kk H locs hP hD hS)
theorem o_bipush (hJ : oR κ D kI kZ l R cc h J) {n : Int} {v : Int32} (hd : decode cc pc = .ok (.bipush n, 2)) (hv : (Int8.ofInt n).toInt32 = v) (kk : J (pc + 2) (.int v :: st) ws cells slots) : J pc st ws cells slots := by
  obtain ⟨p, e, s, m, args, below, meth, c, A, Q, ls, ⟨hx, hb, hml, hown, hts, hK, hA, hin, hl⟩, rfl⟩ := hJ
  intro H locs hP hD hS
  exact lv_bipush hx hb hd hv (kk H locs hP hD hS)
theorem o_sipush (hJ : oR κ D kI kZ l R cc h J) {n : Int} {v : Int32} (hd : decode cc pc = .ok (.sipush n, 3)) (hv : (Int16.ofInt n).toInt32 = v) (kk : J (pc + 3) (.int v :: st) ws cells slots) : J pc st ws cells slots := by
  obtain ⟨p, e, s, m, args, below, meth, c, A, Q, ls, ⟨hx, hb, hml, hown, hts, hK, hA, hin, hl⟩, rfl⟩ := hJ
  intro H locs hP hD hS
  exact lv_sipush hx hb hd hv (kk H locs hP hD hS)
theorem o_obj (hJ : oR κ D kI kZ l R cc h J) {idx : Nat} (hlk : Cond.methodLink (cR κ) idx objectInit ∈ tW) (hd : decode cc pc = .ok (.invokespecial idx, 3)) (hf : 1 ≤ R.frames) (hlo : 12 ≤ R.locals) (kk : J (pc + 3) [] ws cells slots) : J pc [.ref h] ws cells slots := by
  obtain ⟨p, e, s, m, args, below, meth, c, A, Q, ls, ⟨hx, hb, hml, hown, hts, hK, hA, hin, hl⟩, rfl⟩ := hJ
  intro H locs hP hD hS
  exact W.objInit hx hb hown (hts _ hlk) (hts _ oi_inst) (hts _ oi_code) rfl (by rw [hml]; exact hl.1) rfl hd hf hlo (kk H locs hP hD hS)
theorem o_newi (hJ : oR κ D kI kZ l R cc h J) {n : Nat} (hn : n ≤ 400) (hd : decode cc pc = .ok (.newarray .int, 2)) (hc : cells + 1 ≤ R.cells) (hs : slots + n ≤ R.slots) (kk : ∀ q : Nat, J (pc + 2) (.ref q :: st) (ws ++ [(q, .inl (kI, n, .inl (fun _ => 0)))]) (cells + 1) (slots + n)) : J pc (.int (nI n) :: st) ws cells slots := by
  obtain ⟨p, e, s, m, args, below, meth, c, A, Q, ls, ⟨hx, hb, hml, hown, hts, hK, hA, hin, hl⟩, rfl⟩ := hJ
  intro H locs hP hD hS
  refine va_newa (atype := .int) (ty := .int) (N' := n) (a0 := (n, .inl (fun _ => 0))) hx hb (hts _ ar_int) rfl hK hP hD hS hA (fun cA => rfl) (nI_pos (by omega)) (nI_clamp (by omega)) (by show n * 4 ≤ _; omega) hc hs hd (fun q cA H1 hK1 hP1 hD1 hS1 => ?_)
  have e1 := (hK1.2 2 (cA, .int) rfl).2
  have e2 := (hK1.2 0 (kI, .int) rfl).2
  have e3 : cA = kI := Option.some.inj ((show s.vm.findClass ("[" ++ FieldType.toString .int) = some cA from e1).symm.trans (show s.vm.findClass ("[" ++ FieldType.toString .int) = some kI from e2))
  subst e3
  exact kk q H1 locs hP1 hD1 hS1
theorem o_newz (hJ : oR κ D kI kZ l R cc h J) {n : Nat} (hn : n ≤ 400) (hd : decode cc pc = .ok (.newarray .boolean, 2)) (hc : cells + 1 ≤ R.cells) (hs : slots + n ≤ R.slots) (kk : ∀ q : Nat, J (pc + 2) (.ref q :: st) (ws ++ [(q, .inl (kZ, n, .inl (fun _ => 0)))]) (cells + 1) (slots + n)) : J pc (.int (nI n) :: st) ws cells slots := by
  obtain ⟨p, e, s, m, args, below, meth, c, A, Q, ls, ⟨hx, hb, hml, hown, hts, hK, hA, hin, hl⟩, rfl⟩ := hJ
  intro H locs hP hD hS
  refine va_newa (atype := .boolean) (ty := .boolean) (N' := n) (a0 := (n, .inl (fun _ => 0))) hx hb (hts _ ar_bool) rfl hK hP hD hS hA (fun cA => rfl) (nI_pos (by omega)) (nI_clamp (by omega)) (by show n * 1 ≤ _; omega) hc hs hd (fun q cA H1 hK1 hP1 hD1 hS1 => ?_)
  have e1 := (hK1.2 2 (cA, .boolean) rfl).2
  have e2 := (hK1.2 1 (kZ, .boolean) rfl).2
  have e3 : cA = kZ := Option.some.inj ((show s.vm.findClass ("[" ++ FieldType.toString .boolean) = some cA from e1).symm.trans (show s.vm.findClass ("[" ++ FieldType.toString .boolean) = some kZ from e2))
  subst e3
  exact kk q H1 locs hP1 hD1 hS1
theorem o_putF (hJ : oR κ D kI kZ l R cc h J) {k idx q : Nat} {fs : List Value} {as : va_W} {ty : FieldType} (hf : gFl κ k idx) (hk : k < cN κ) (hfin : (cF κ k).2.2.2 = true) (hty : parseFieldDescriptor (cF κ k).2.2.1 = some (.array ty)) (hw : ws = (h, .inr (cI κ, fs)) :: as) (hlen : k < fs.length) (hd : decode cc pc = .ok (.putfield idx, 3)) (kk : J (pc + 3) st ((h, .inr (cI κ, fs.set k (.ref q))) :: as) cells slots) : J pc (.ref q :: .ref h :: st) ws cells slots := by
  obtain ⟨p, e, s, m, args, below, meth, c, A, Q, ls, ⟨hx, hb, hml, hown, hts, hK, hA, hin, hl⟩, rfl⟩ := hJ
  intro H locs hP hD hS
  subst hw
  exact va_putF (ci := cI κ) (C := cR κ) (T := cF κ) (N := cN κ) (ref := cR κ) hx hb hts (cIn κ) (cTy κ) (cTy_ok κ) (cNm_ok κ) hown hK hP hD hS 0 rfl (cl_at κ) k hk (hts _ hf) (fun _ h9 => by rw [← cF_own κ k]; exact h9) hfin hin (cF_own κ k) hty rfl rfl hlen hd (fun H1 locs1 p1 d1 s1 => kk H1 locs1 p1 d1 s1)
theorem o_putN (hJ : oR κ D kI kZ l R cc h J) {k idx : Nat} {v : Value} {fs : List Value} {as : va_W} {ty : FieldType} (hf : gFl κ k idx) (hk : k < cN κ) (hfin : (cF κ k).2.2.2 = false) (hty : parseFieldDescriptor (cF κ k).2.2.1 = some ty) (hnr : narrow ty v = v) (hft : fits ty v = true) (hw : ws = (h, .inr (cI κ, fs)) :: as) (hlen : k < fs.length) (hd : decode cc pc = .ok (.putfield idx, 3)) (kk : J (pc + 3) st ((h, .inr (cI κ, fs.set k v)) :: as) cells slots) : J pc (v :: .ref h :: st) ws cells slots := by
  obtain ⟨p, e, s, m, args, below, meth, c, A, Q, ls, ⟨hx, hb, hml, hown, hts, hK, hA, hin, hl⟩, rfl⟩ := hJ
  intro H locs hP hD hS
  subst hw
  exact va_put (ci := cI κ) (C := cR κ) (T := cF κ) (N := cN κ) (ref := cR κ) hx hb hts (cIn κ) (cTy κ) (cTy_ok κ) (cNm_ok κ) hown hK hP hD hS 0 rfl (cl_at κ) k hk (hts _ hf) (fun _ h9 => by rw [← cF_own κ k]; exact h9) hfin hty hnr hft hlen hd (fun H1 locs1 p1 d1 s1 => kk H1 locs1 p1 d1 s1)
theorem o_get (hJ : oR κ D kI kZ l R cc h J) {k idx : Nat} {v : Value} {fs : List Value} {as : va_W} (hf : gFl κ k idx) (hk : k < cN κ) (hw : ws = (h, .inr (cI κ, fs)) :: as) (hv : fs[k]? = some v) (hd : decode cc pc = .ok (.getfield idx, 3)) (kk : J (pc + 3) (v :: st) ws cells slots) : J pc (.ref h :: st) ws cells slots := by
  obtain ⟨p, e, s, m, args, below, meth, c, A, Q, ls, ⟨hx, hb, hml, hown, hts, hK, hA, hin, hl⟩, rfl⟩ := hJ
  intro H locs hP hD hS
  subst hw
  exact va_get (ci := cI κ) (C := cR κ) (T := cF κ) (N := cN κ) (ref := cR κ) hx hb hts (cIn κ) hown hK hP 0 rfl (cl_at κ) k hk (hts _ hf) (fun _ h9 => by rw [← cF_own κ k]; exact h9) hv hd (kk H locs hP hD hS)
theorem o_iast (hJ : oR κ D kI kZ l R cc h J) {q0 n j a : Nat} {x : Int32} {f : Nat → Int32} (ha : ws[q0]? = some (a, .inl (kI, n, .inl f))) (hj : j < n) (hn : n < 2 ^ 31) (hd : decode cc pc = .ok (.iastore, 1)) (kk : J (pc + 1) st (ws.set q0 (a, .inl (kI, n, .inl (upd f j x)))) cells slots) : J pc (.int x :: .int (nI j) :: .ref a :: st) ws cells slots := by
  obtain ⟨p, e, s, m, args, below, meth, c, A, Q, ls, ⟨hx, hb, hml, hown, hts, hK, hA, hin, hl⟩, rfl⟩ := hJ
  intro H locs hP hD hS
  refine va_iast hx hb hK hP hD hS q0 0 ha rfl (vp_in_nI hj hn) hd (fun H1 locs1 p1 d1 s1 => ?_)
  rw [nI_clamp (by omega)] at p1 d1
  exact kk H1 locs1 p1 d1 s1
end OR
/-- a constructor's contract: from the blank object to its whole world -/
def oM (κ : Bool) (D : va_G) (kI kZ : ClassId) (l : Launch) (y : MethodName) (cc : ByteArray) (rm : Room) (h : Nat) (fs0 : List Value) (mc ms : Nat) (iv0 : Nat → Int32) (av0 : Nat → Nat → Int32) : Prop :=
  ∀ sz, Met l y (.code y cc 1 none :: tW) rm (va_Pc [.ref h] (fun U => U.heap.size = sz ∧ va_P D classes [(h, .inr (cI κ, fs0))] U.heap ∧ va_K D classes (oT kI kZ) U ∧ va_D (fun _ => True) [(h, .inr (cI κ, fs0))]))
    (va_Qv (fun _ : Nat → Nat => True) (fun ad t => gB κ (h, ad, kI, kZ, D) (va_A [(h, .inr (cI κ, fs0))] sz) (iv0, av0) t) (va_A [(h, .inr (cI κ, fs0))] sz)) mc ms (va_A [(h, .inr (cI κ, fs0))] sz)
theorem o_met {κ : Bool} {D : va_G} {kI kZ : ClassId} {l : Launch} {y : MethodName} {cc : ByteArray} {rm : Room} {h : Nat} {fs0 : List Value} {mc ms : Nat} {iv0 : Nat → Int32} {av0 : Nat → Nat → Int32} (hy : y.cls = cR κ) (hyn : y.name = "<init>")
    (body : ∀ J : oJT, oR κ D kI kZ l rm cc h J → (∀ (pc : Nat) (ad : Nat → Nat) (ws : va_W), decode cc pc = .ok (.return_, 1) → ws = gW κ (h, ad, kI, kZ, D) iv0 av0 → J pc [] ws mc ms) → J 0 [] [(h, .inr (cI κ, fs0))] 0 0) : oM κ D kI kZ l y cc rm h fs0 mc ms iv0 av0 := by
  intro sz
  refine Met.ofW (cc := cc) (maxL := 1) (ret := none) (by rw [hy]; exact cPlain κ) rfl ?_
  intro p e s m args below meth c s₁ B hml hv
  obtain ⟨rfl, hsz, hP, hK, hD0⟩ := hv
  have hx := B.exec
  have hb := B.bytes
  have hr := B.returns
  have hts := atoms_spec (ws := .code y cc 1 none :: tW) B.pre
  have hown : s.vm.findClass (cR κ) = some m.cls := by rw [← hy]; exact findClass_of_methodNamed B.named
  have hlocks := B.notSynchronized
  have hin : meth.name = "<init>" := by rw [← hyn]; exact (name_of_methodNamed B.named B.method).1
  subst hsz
  have hD := hD0.self (sz := s.heap.size)
  have hl := lv_entry [.ref h] (n := 1) (Nat.le_of_ble_eq_true rfl)
  rw [lg_entry_eq]
  exact body (oJ p l e rm s m _ below meth c D (va_A [(h, .inr (cI κ, fs0))] s.heap.size) (MQ below (va_Qv (fun _ : Nat → Nat => True) (fun ad t => gB κ (h, ad, kI, kZ, D) (va_A [(h, .inr (cI κ, fs0))] s.heap.size) (iv0, av0) t) (va_A [(h, .inr (cI κ, fs0))] s.heap.size)) _ s mc ms (va_A [(h, .inr (cI κ, fs0))] s.heap.size)) _)
    ⟨p, e, s, m, _, below, meth, c, _, _, _, ⟨hx, hb, hml, hown, fun w hw => hts w (List.mem_cons_of_mem _ hw), hK, fun q h => Or.inr h, hin, hl⟩, rfl⟩
    (fun pc ad ws hd hw H locs hP hD hS => by
      subst hw
      exact W.vret hx hb hr (fun t ht hW => ⟨⟨ad, rfl, trivial, by rw [ht]; exact hP, va_K.moved hW.alike hK, hD⟩, hS.F ht⟩) hS.2.2 hd)
    s.heap [] hP hD va_S.rf
def fs0_X : List Value := [.null, .null, .null, .null, .null, .null, .null, .null, .null, .null, .null, .null, .null, .null, .null, .null, .null, .null, .null, .null, .int 0, .int 0, .null, .null, .null, .int 0, .int 0, .int 0, .int 0, .int 0, .int 0]
set_option maxHeartbeats 4000000 in
set_option maxRecDepth 100000 in
theorem c_X_init (D : va_G) (kI kZ : ClassId) (l : Launch) (h : Nat) : oM false D kI kZ l y_X_init b_X_init { frames := 1, cells := 23, slots := 1414, locals := 12 } h fs0_X 23 1414 (upd (fun _ => 0) 21 (nI 31)) (fun _ _ => 0) := by
  refine o_met rfl rfl (fun J hJ hret => ?_)
  show J 0 [] [(h, .inr (cI false, [.null, .null, .null, .null, .null, .null, .null, .null, .null, .null, .null, .null, .null, .null, .null, .null, .null, .null, .null, .null, .int 0, .int 0, .null, .null, .null, .int 0, .int 0, .int 0, .int 0, .int 0, .int 0]))] 0 0
  refine o_aload hJ d_X_init_0 ?_
  refine o_obj hJ oi_X d_X_init_1 (by decide) (by decide) ?_
  refine o_aload hJ d_X_init_4 ?_
  refine o_bipush hJ (v := nI 13) d_X_init_5 (by decide) ?_
  refine o_newi hJ (n := 13) (by decide) d_X_init_7 (by decide) (by decide) (fun q0 => ?_)
  show J 9 [.ref q0, .ref h] [(h, .inr (cI false, [.null, .null, .null, .null, .null, .null, .null, .null, .null, .null, .null, .null, .null, .null, .null, .null, .null, .null, .null, .null, .int 0, .int 0, .null, .null, .null, .int 0, .int 0, .int 0, .int 0, .int 0, .int 0])), (q0, .inl (kI, 13, .inl (fun _ => 0)))] 1 13
  refine o_putF hJ (k := 0) (ty := .int) fl_X_0 (by decide) rfl (by decide +kernel) rfl (Nat.le_of_ble_eq_true rfl) d_X_init_9 ?_
  show J 12 [] [(h, .inr (cI false, [.ref q0, .null, .null, .null, .null, .null, .null, .null, .null, .null, .null, .null, .null, .null, .null, .null, .null, .null, .null, .null, .int 0, .int 0, .null, .null, .null, .int 0, .int 0, .int 0, .int 0, .int 0, .int 0])), (q0, .inl (kI, 13, .inl (fun _ => 0)))] 1 13
  refine o_aload hJ d_X_init_12 ?_
  refine o_bipush hJ (v := nI 13) d_X_init_13 (by decide) ?_
  refine o_newi hJ (n := 13) (by decide) d_X_init_15 (by decide) (by decide) (fun q1 => ?_)
  show J 17 [.ref q1, .ref h] [(h, .inr (cI false, [.ref q0, .null, .null, .null, .null, .null, .null, .null, .null, .null, .null, .null, .null, .null, .null, .null, .null, .null, .null, .null, .int 0, .int 0, .null, .null, .null, .int 0, .int 0, .int 0, .int 0, .int 0, .int 0])), (q0, .inl (kI, 13, .inl (fun _ => 0))), (q1, .inl (kI, 13, .inl (fun _ => 0)))] 2 26
  refine o_putF hJ (k := 1) (ty := .int) fl_X_1 (by decide) rfl (by decide +kernel) rfl (Nat.le_of_ble_eq_true rfl) d_X_init_17 ?_
  show J 20 [] [(h, .inr (cI false, [.ref q0, .ref q1, .null, .null, .null, .null, .null, .null, .null, .null, .null, .null, .null, .null, .null, .null, .null, .null, .null, .null, .int 0, .int 0, .null, .null, .null, .int 0, .int 0, .int 0, .int 0, .int 0, .int 0])), (q0, .inl (kI, 13, .inl (fun _ => 0))), (q1, .inl (kI, 13, .inl (fun _ => 0)))] 2 26
  refine o_aload hJ d_X_init_20 ?_
  refine o_bipush hJ (v := nI 26) d_X_init_21 (by decide) ?_
  refine o_newi hJ (n := 26) (by decide) d_X_init_23 (by decide) (by decide) (fun q2 => ?_)
  show J 25 [.ref q2, .ref h] [(h, .inr (cI false, [.ref q0, .ref q1, .null, .null, .null, .null, .null, .null, .null, .null, .null, .null, .null, .null, .null, .null, .null, .null, .null, .null, .int 0, .int 0, .null, .null, .null, .int 0, .int 0, .int 0, .int 0, .int 0, .int 0])), (q0, .inl (kI, 13, .inl (fun _ => 0))), (q1, .inl (kI, 13, .inl (fun _ => 0))), (q2, .inl (kI, 26, .inl (fun _ => 0)))] 3 52
  refine o_putF hJ (k := 2) (ty := .int) fl_X_2 (by decide) rfl (by decide +kernel) rfl (Nat.le_of_ble_eq_true rfl) d_X_init_25 ?_
  show J 28 [] [(h, .inr (cI false, [.ref q0, .ref q1, .ref q2, .null, .null, .null, .null, .null, .null, .null, .null, .null, .null, .null, .null, .null, .null, .null, .null, .null, .int 0, .int 0, .null, .null, .null, .int 0, .int 0, .int 0, .int 0, .int 0, .int 0])), (q0, .inl (kI, 13, .inl (fun _ => 0))), (q1, .inl (kI, 13, .inl (fun _ => 0))), (q2, .inl (kI, 26, .inl (fun _ => 0)))] 3 52
  refine o_aload hJ d_X_init_28 ?_
  refine o_bipush hJ (v := nI 26) d_X_init_29 (by decide) ?_
  refine o_newi hJ (n := 26) (by decide) d_X_init_31 (by decide) (by decide) (fun q3 => ?_)
  show J 33 [.ref q3, .ref h] [(h, .inr (cI false, [.ref q0, .ref q1, .ref q2, .null, .null, .null, .null, .null, .null, .null, .null, .null, .null, .null, .null, .null, .null, .null, .null, .null, .int 0, .int 0, .null, .null, .null, .int 0, .int 0, .int 0, .int 0, .int 0, .int 0])), (q0, .inl (kI, 13, .inl (fun _ => 0))), (q1, .inl (kI, 13, .inl (fun _ => 0))), (q2, .inl (kI, 26, .inl (fun _ => 0))), (q3, .inl (kI, 26, .inl (fun _ => 0)))] 4 78
  refine o_putF hJ (k := 3) (ty := .int) fl_X_3 (by decide) rfl (by decide +kernel) rfl (Nat.le_of_ble_eq_true rfl) d_X_init_33 ?_
  show J 36 [] [(h, .inr (cI false, [.ref q0, .ref q1, .ref q2, .ref q3, .null, .null, .null, .null, .null, .null, .null, .null, .null, .null, .null, .null, .null, .null, .null, .null, .int 0, .int 0, .null, .null, .null, .int 0, .int 0, .int 0, .int 0, .int 0, .int 0])), (q0, .inl (kI, 13, .inl (fun _ => 0))), (q1, .inl (kI, 13, .inl (fun _ => 0))), (q2, .inl (kI, 26, .inl (fun _ => 0))), (q3, .inl (kI, 26, .inl (fun _ => 0)))] 4 78
  refine o_aload hJ d_X_init_36 ?_
  refine o_bipush hJ (v := nI 26) d_X_init_37 (by decide) ?_
  refine o_newi hJ (n := 26) (by decide) d_X_init_39 (by decide) (by decide) (fun q4 => ?_)
  show J 41 [.ref q4, .ref h] [(h, .inr (cI false, [.ref q0, .ref q1, .ref q2, .ref q3, .null, .null, .null, .null, .null, .null, .null, .null, .null, .null, .null, .null, .null, .null, .null, .null, .int 0, .int 0, .null, .null, .null, .int 0, .int 0, .int 0, .int 0, .int 0, .int 0])), (q0, .inl (kI, 13, .inl (fun _ => 0))), (q1, .inl (kI, 13, .inl (fun _ => 0))), (q2, .inl (kI, 26, .inl (fun _ => 0))), (q3, .inl (kI, 26, .inl (fun _ => 0))), (q4, .inl (kI, 26, .inl (fun _ => 0)))] 5 104
  refine o_putF hJ (k := 4) (ty := .int) fl_X_4 (by decide) rfl (by decide +kernel) rfl (Nat.le_of_ble_eq_true rfl) d_X_init_41 ?_
  show J 44 [] [(h, .inr (cI false, [.ref q0, .ref q1, .ref q2, .ref q3, .ref q4, .null, .null, .null, .null, .null, .null, .null, .null, .null, .null, .null, .null, .null, .null, .null, .int 0, .int 0, .null, .null, .null, .int 0, .int 0, .int 0, .int 0, .int 0, .int 0])), (q0, .inl (kI, 13, .inl (fun _ => 0))), (q1, .inl (kI, 13, .inl (fun _ => 0))), (q2, .inl (kI, 26, .inl (fun _ => 0))), (q3, .inl (kI, 26, .inl (fun _ => 0))), (q4, .inl (kI, 26, .inl (fun _ => 0)))] 5 104
  refine o_aload hJ d_X_init_44 ?_
  refine o_bipush hJ (v := nI 13) d_X_init_45 (by decide) ?_
  refine o_newi hJ (n := 13) (by decide) d_X_init_47 (by decide) (by decide) (fun q5 => ?_)
  show J 49 [.ref q5, .ref h] [(h, .inr (cI false, [.ref q0, .ref q1, .ref q2, .ref q3, .ref q4, .null, .null, .null, .null, .null, .null, .null, .null, .null, .null, .null, .null, .null, .null, .null, .int 0, .int 0, .null, .null, .null, .int 0, .int 0, .int 0, .int 0, .int 0, .int 0])), (q0, .inl (kI, 13, .inl (fun _ => 0))), (q1, .inl (kI, 13, .inl (fun _ => 0))), (q2, .inl (kI, 26, .inl (fun _ => 0))), (q3, .inl (kI, 26, .inl (fun _ => 0))), (q4, .inl (kI, 26, .inl (fun _ => 0))), (q5, .inl (kI, 13, .inl (fun _ => 0)))] 6 117
  refine o_putF hJ (k := 5) (ty := .int) fl_X_5 (by decide) rfl (by decide +kernel) rfl (Nat.le_of_ble_eq_true rfl) d_X_init_49 ?_
  show J 52 [] [(h, .inr (cI false, [.ref q0, .ref q1, .ref q2, .ref q3, .ref q4, .ref q5, .null, .null, .null, .null, .null, .null, .null, .null, .null, .null, .null, .null, .null, .null, .int 0, .int 0, .null, .null, .null, .int 0, .int 0, .int 0, .int 0, .int 0, .int 0])), (q0, .inl (kI, 13, .inl (fun _ => 0))), (q1, .inl (kI, 13, .inl (fun _ => 0))), (q2, .inl (kI, 26, .inl (fun _ => 0))), (q3, .inl (kI, 26, .inl (fun _ => 0))), (q4, .inl (kI, 26, .inl (fun _ => 0))), (q5, .inl (kI, 13, .inl (fun _ => 0)))] 6 117
  refine o_aload hJ d_X_init_52 ?_
  refine o_bipush hJ (v := nI 24) d_X_init_53 (by decide) ?_
  refine o_newi hJ (n := 24) (by decide) d_X_init_55 (by decide) (by decide) (fun q6 => ?_)
  show J 57 [.ref q6, .ref h] [(h, .inr (cI false, [.ref q0, .ref q1, .ref q2, .ref q3, .ref q4, .ref q5, .null, .null, .null, .null, .null, .null, .null, .null, .null, .null, .null, .null, .null, .null, .int 0, .int 0, .null, .null, .null, .int 0, .int 0, .int 0, .int 0, .int 0, .int 0])), (q0, .inl (kI, 13, .inl (fun _ => 0))), (q1, .inl (kI, 13, .inl (fun _ => 0))), (q2, .inl (kI, 26, .inl (fun _ => 0))), (q3, .inl (kI, 26, .inl (fun _ => 0))), (q4, .inl (kI, 26, .inl (fun _ => 0))), (q5, .inl (kI, 13, .inl (fun _ => 0))), (q6, .inl (kI, 24, .inl (fun _ => 0)))] 7 141
  refine o_putF hJ (k := 6) (ty := .int) fl_X_6 (by decide) rfl (by decide +kernel) rfl (Nat.le_of_ble_eq_true rfl) d_X_init_57 ?_
  show J 60 [] [(h, .inr (cI false, [.ref q0, .ref q1, .ref q2, .ref q3, .ref q4, .ref q5, .ref q6, .null, .null, .null, .null, .null, .null, .null, .null, .null, .null, .null, .null, .null, .int 0, .int 0, .null, .null, .null, .int 0, .int 0, .int 0, .int 0, .int 0, .int 0])), (q0, .inl (kI, 13, .inl (fun _ => 0))), (q1, .inl (kI, 13, .inl (fun _ => 0))), (q2, .inl (kI, 26, .inl (fun _ => 0))), (q3, .inl (kI, 26, .inl (fun _ => 0))), (q4, .inl (kI, 26, .inl (fun _ => 0))), (q5, .inl (kI, 13, .inl (fun _ => 0))), (q6, .inl (kI, 24, .inl (fun _ => 0)))] 7 141
  refine o_aload hJ d_X_init_60 ?_
  refine o_bipush hJ (v := nI 24) d_X_init_61 (by decide) ?_
  refine o_newi hJ (n := 24) (by decide) d_X_init_63 (by decide) (by decide) (fun q7 => ?_)
  show J 65 [.ref q7, .ref h] [(h, .inr (cI false, [.ref q0, .ref q1, .ref q2, .ref q3, .ref q4, .ref q5, .ref q6, .null, .null, .null, .null, .null, .null, .null, .null, .null, .null, .null, .null, .null, .int 0, .int 0, .null, .null, .null, .int 0, .int 0, .int 0, .int 0, .int 0, .int 0])), (q0, .inl (kI, 13, .inl (fun _ => 0))), (q1, .inl (kI, 13, .inl (fun _ => 0))), (q2, .inl (kI, 26, .inl (fun _ => 0))), (q3, .inl (kI, 26, .inl (fun _ => 0))), (q4, .inl (kI, 26, .inl (fun _ => 0))), (q5, .inl (kI, 13, .inl (fun _ => 0))), (q6, .inl (kI, 24, .inl (fun _ => 0))), (q7, .inl (kI, 24, .inl (fun _ => 0)))] 8 165
  refine o_putF hJ (k := 7) (ty := .int) fl_X_7 (by decide) rfl (by decide +kernel) rfl (Nat.le_of_ble_eq_true rfl) d_X_init_65 ?_
  show J 68 [] [(h, .inr (cI false, [.ref q0, .ref q1, .ref q2, .ref q3, .ref q4, .ref q5, .ref q6, .ref q7, .null, .null, .null, .null, .null, .null, .null, .null, .null, .null, .null, .null, .int 0, .int 0, .null, .null, .null, .int 0, .int 0, .int 0, .int 0, .int 0, .int 0])), (q0, .inl (kI, 13, .inl (fun _ => 0))), (q1, .inl (kI, 13, .inl (fun _ => 0))), (q2, .inl (kI, 26, .inl (fun _ => 0))), (q3, .inl (kI, 26, .inl (fun _ => 0))), (q4, .inl (kI, 26, .inl (fun _ => 0))), (q5, .inl (kI, 13, .inl (fun _ => 0))), (q6, .inl (kI, 24, .inl (fun _ => 0))), (q7, .inl (kI, 24, .inl (fun _ => 0)))] 8 165
  refine o_aload hJ d_X_init_68 ?_
  refine o_bipush hJ (v := nI 24) d_X_init_69 (by decide) ?_
  refine o_newz hJ (n := 24) (by decide) d_X_init_71 (by decide) (by decide) (fun q8 => ?_)
  show J 73 [.ref q8, .ref h] [(h, .inr (cI false, [.ref q0, .ref q1, .ref q2, .ref q3, .ref q4, .ref q5, .ref q6, .ref q7, .null, .null, .null, .null, .null, .null, .null, .null, .null, .null, .null, .null, .int 0, .int 0, .null, .null, .null, .int 0, .int 0, .int 0, .int 0, .int 0, .int 0])), (q0, .inl (kI, 13, .inl (fun _ => 0))), (q1, .inl (kI, 13, .inl (fun _ => 0))), (q2, .inl (kI, 26, .inl (fun _ => 0))), (q3, .inl (kI, 26, .inl (fun _ => 0))), (q4, .inl (kI, 26, .inl (fun _ => 0))), (q5, .inl (kI, 13, .inl (fun _ => 0))), (q6, .inl (kI, 24, .inl (fun _ => 0))), (q7, .inl (kI, 24, .inl (fun _ => 0))), (q8, .inl (kZ, 24, .inl (fun _ => 0)))] 9 189
  refine o_putF hJ (k := 8) (ty := .boolean) fl_X_8 (by decide) rfl (by decide +kernel) rfl (Nat.le_of_ble_eq_true rfl) d_X_init_73 ?_
  show J 76 [] [(h, .inr (cI false, [.ref q0, .ref q1, .ref q2, .ref q3, .ref q4, .ref q5, .ref q6, .ref q7, .ref q8, .null, .null, .null, .null, .null, .null, .null, .null, .null, .null, .null, .int 0, .int 0, .null, .null, .null, .int 0, .int 0, .int 0, .int 0, .int 0, .int 0])), (q0, .inl (kI, 13, .inl (fun _ => 0))), (q1, .inl (kI, 13, .inl (fun _ => 0))), (q2, .inl (kI, 26, .inl (fun _ => 0))), (q3, .inl (kI, 26, .inl (fun _ => 0))), (q4, .inl (kI, 26, .inl (fun _ => 0))), (q5, .inl (kI, 13, .inl (fun _ => 0))), (q6, .inl (kI, 24, .inl (fun _ => 0))), (q7, .inl (kI, 24, .inl (fun _ => 0))), (q8, .inl (kZ, 24, .inl (fun _ => 0)))] 9 189
  refine o_aload hJ d_X_init_76 ?_
  refine o_bipush hJ (v := nI 32) d_X_init_77 (by decide) ?_
  refine o_newi hJ (n := 32) (by decide) d_X_init_79 (by decide) (by decide) (fun q9 => ?_)
  show J 81 [.ref q9, .ref h] [(h, .inr (cI false, [.ref q0, .ref q1, .ref q2, .ref q3, .ref q4, .ref q5, .ref q6, .ref q7, .ref q8, .null, .null, .null, .null, .null, .null, .null, .null, .null, .null, .null, .int 0, .int 0, .null, .null, .null, .int 0, .int 0, .int 0, .int 0, .int 0, .int 0])), (q0, .inl (kI, 13, .inl (fun _ => 0))), (q1, .inl (kI, 13, .inl (fun _ => 0))), (q2, .inl (kI, 26, .inl (fun _ => 0))), (q3, .inl (kI, 26, .inl (fun _ => 0))), (q4, .inl (kI, 26, .inl (fun _ => 0))), (q5, .inl (kI, 13, .inl (fun _ => 0))), (q6, .inl (kI, 24, .inl (fun _ => 0))), (q7, .inl (kI, 24, .inl (fun _ => 0))), (q8, .inl (kZ, 24, .inl (fun _ => 0))), (q9, .inl (kI, 32, .inl (fun _ => 0)))] 10 221
  refine o_putF hJ (k := 9) (ty := .int) fl_X_9 (by decide) rfl (by decide +kernel) rfl (Nat.le_of_ble_eq_true rfl) d_X_init_81 ?_
  show J 84 [] [(h, .inr (cI false, [.ref q0, .ref q1, .ref q2, .ref q3, .ref q4, .ref q5, .ref q6, .ref q7, .ref q8, .ref q9, .null, .null, .null, .null, .null, .null, .null, .null, .null, .null, .int 0, .int 0, .null, .null, .null, .int 0, .int 0, .int 0, .int 0, .int 0, .int 0])), (q0, .inl (kI, 13, .inl (fun _ => 0))), (q1, .inl (kI, 13, .inl (fun _ => 0))), (q2, .inl (kI, 26, .inl (fun _ => 0))), (q3, .inl (kI, 26, .inl (fun _ => 0))), (q4, .inl (kI, 26, .inl (fun _ => 0))), (q5, .inl (kI, 13, .inl (fun _ => 0))), (q6, .inl (kI, 24, .inl (fun _ => 0))), (q7, .inl (kI, 24, .inl (fun _ => 0))), (q8, .inl (kZ, 24, .inl (fun _ => 0))), (q9, .inl (kI, 32, .inl (fun _ => 0)))] 10 221
  refine o_aload hJ d_X_init_84 ?_
  refine o_bipush hJ (v := nI 33) d_X_init_85 (by decide) ?_
  refine o_newi hJ (n := 33) (by decide) d_X_init_87 (by decide) (by decide) (fun q10 => ?_)
  show J 89 [.ref q10, .ref h] [(h, .inr (cI false, [.ref q0, .ref q1, .ref q2, .ref q3, .ref q4, .ref q5, .ref q6, .ref q7, .ref q8, .ref q9, .null, .null, .null, .null, .null, .null, .null, .null, .null, .null, .int 0, .int 0, .null, .null, .null, .int 0, .int 0, .int 0, .int 0, .int 0, .int 0])), (q0, .inl (kI, 13, .inl (fun _ => 0))), (q1, .inl (kI, 13, .inl (fun _ => 0))), (q2, .inl (kI, 26, .inl (fun _ => 0))), (q3, .inl (kI, 26, .inl (fun _ => 0))), (q4, .inl (kI, 26, .inl (fun _ => 0))), (q5, .inl (kI, 13, .inl (fun _ => 0))), (q6, .inl (kI, 24, .inl (fun _ => 0))), (q7, .inl (kI, 24, .inl (fun _ => 0))), (q8, .inl (kZ, 24, .inl (fun _ => 0))), (q9, .inl (kI, 32, .inl (fun _ => 0))), (q10, .inl (kI, 33, .inl (fun _ => 0)))] 11 254
  refine o_putF hJ (k := 10) (ty := .int) fl_X_10 (by decide) rfl (by decide +kernel) rfl (Nat.le_of_ble_eq_true rfl) d_X_init_89 ?_
  show J 92 [] [(h, .inr (cI false, [.ref q0, .ref q1, .ref q2, .ref q3, .ref q4, .ref q5, .ref q6, .ref q7, .ref q8, .ref q9, .ref q10, .null, .null, .null, .null, .null, .null, .null, .null, .null, .int 0, .int 0, .null, .null, .null, .int 0, .int 0, .int 0, .int 0, .int 0, .int 0])), (q0, .inl (kI, 13, .inl (fun _ => 0))), (q1, .inl (kI, 13, .inl (fun _ => 0))), (q2, .inl (kI, 26, .inl (fun _ => 0))), (q3, .inl (kI, 26, .inl (fun _ => 0))), (q4, .inl (kI, 26, .inl (fun _ => 0))), (q5, .inl (kI, 13, .inl (fun _ => 0))), (q6, .inl (kI, 24, .inl (fun _ => 0))), (q7, .inl (kI, 24, .inl (fun _ => 0))), (q8, .inl (kZ, 24, .inl (fun _ => 0))), (q9, .inl (kI, 32, .inl (fun _ => 0))), (q10, .inl (kI, 33, .inl (fun _ => 0)))] 11 254
  refine o_aload hJ d_X_init_92 ?_
  refine o_bipush hJ (v := nI 32) d_X_init_93 (by decide) ?_
  refine o_newi hJ (n := 32) (by decide) d_X_init_95 (by decide) (by decide) (fun q11 => ?_)
  show J 97 [.ref q11, .ref h] [(h, .inr (cI false, [.ref q0, .ref q1, .ref q2, .ref q3, .ref q4, .ref q5, .ref q6, .ref q7, .ref q8, .ref q9, .ref q10, .null, .null, .null, .null, .null, .null, .null, .null, .null, .int 0, .int 0, .null, .null, .null, .int 0, .int 0, .int 0, .int 0, .int 0, .int 0])), (q0, .inl (kI, 13, .inl (fun _ => 0))), (q1, .inl (kI, 13, .inl (fun _ => 0))), (q2, .inl (kI, 26, .inl (fun _ => 0))), (q3, .inl (kI, 26, .inl (fun _ => 0))), (q4, .inl (kI, 26, .inl (fun _ => 0))), (q5, .inl (kI, 13, .inl (fun _ => 0))), (q6, .inl (kI, 24, .inl (fun _ => 0))), (q7, .inl (kI, 24, .inl (fun _ => 0))), (q8, .inl (kZ, 24, .inl (fun _ => 0))), (q9, .inl (kI, 32, .inl (fun _ => 0))), (q10, .inl (kI, 33, .inl (fun _ => 0))), (q11, .inl (kI, 32, .inl (fun _ => 0)))] 12 286
  refine o_putF hJ (k := 11) (ty := .int) fl_X_11 (by decide) rfl (by decide +kernel) rfl (Nat.le_of_ble_eq_true rfl) d_X_init_97 ?_
  show J 100 [] [(h, .inr (cI false, [.ref q0, .ref q1, .ref q2, .ref q3, .ref q4, .ref q5, .ref q6, .ref q7, .ref q8, .ref q9, .ref q10, .ref q11, .null, .null, .null, .null, .null, .null, .null, .null, .int 0, .int 0, .null, .null, .null, .int 0, .int 0, .int 0, .int 0, .int 0, .int 0])), (q0, .inl (kI, 13, .inl (fun _ => 0))), (q1, .inl (kI, 13, .inl (fun _ => 0))), (q2, .inl (kI, 26, .inl (fun _ => 0))), (q3, .inl (kI, 26, .inl (fun _ => 0))), (q4, .inl (kI, 26, .inl (fun _ => 0))), (q5, .inl (kI, 13, .inl (fun _ => 0))), (q6, .inl (kI, 24, .inl (fun _ => 0))), (q7, .inl (kI, 24, .inl (fun _ => 0))), (q8, .inl (kZ, 24, .inl (fun _ => 0))), (q9, .inl (kI, 32, .inl (fun _ => 0))), (q10, .inl (kI, 33, .inl (fun _ => 0))), (q11, .inl (kI, 32, .inl (fun _ => 0)))] 12 286
  refine o_aload hJ d_X_init_100 ?_
  refine o_sipush hJ (v := nI 400) d_X_init_101 (by decide) ?_
  refine o_newi hJ (n := 400) (by decide) d_X_init_104 (by decide) (by decide) (fun q12 => ?_)
  show J 106 [.ref q12, .ref h] [(h, .inr (cI false, [.ref q0, .ref q1, .ref q2, .ref q3, .ref q4, .ref q5, .ref q6, .ref q7, .ref q8, .ref q9, .ref q10, .ref q11, .null, .null, .null, .null, .null, .null, .null, .null, .int 0, .int 0, .null, .null, .null, .int 0, .int 0, .int 0, .int 0, .int 0, .int 0])), (q0, .inl (kI, 13, .inl (fun _ => 0))), (q1, .inl (kI, 13, .inl (fun _ => 0))), (q2, .inl (kI, 26, .inl (fun _ => 0))), (q3, .inl (kI, 26, .inl (fun _ => 0))), (q4, .inl (kI, 26, .inl (fun _ => 0))), (q5, .inl (kI, 13, .inl (fun _ => 0))), (q6, .inl (kI, 24, .inl (fun _ => 0))), (q7, .inl (kI, 24, .inl (fun _ => 0))), (q8, .inl (kZ, 24, .inl (fun _ => 0))), (q9, .inl (kI, 32, .inl (fun _ => 0))), (q10, .inl (kI, 33, .inl (fun _ => 0))), (q11, .inl (kI, 32, .inl (fun _ => 0))), (q12, .inl (kI, 400, .inl (fun _ => 0)))] 13 686
  refine o_putF hJ (k := 12) (ty := .int) fl_X_12 (by decide) rfl (by decide +kernel) rfl (Nat.le_of_ble_eq_true rfl) d_X_init_106 ?_
  show J 109 [] [(h, .inr (cI false, [.ref q0, .ref q1, .ref q2, .ref q3, .ref q4, .ref q5, .ref q6, .ref q7, .ref q8, .ref q9, .ref q10, .ref q11, .ref q12, .null, .null, .null, .null, .null, .null, .null, .int 0, .int 0, .null, .null, .null, .int 0, .int 0, .int 0, .int 0, .int 0, .int 0])), (q0, .inl (kI, 13, .inl (fun _ => 0))), (q1, .inl (kI, 13, .inl (fun _ => 0))), (q2, .inl (kI, 26, .inl (fun _ => 0))), (q3, .inl (kI, 26, .inl (fun _ => 0))), (q4, .inl (kI, 26, .inl (fun _ => 0))), (q5, .inl (kI, 13, .inl (fun _ => 0))), (q6, .inl (kI, 24, .inl (fun _ => 0))), (q7, .inl (kI, 24, .inl (fun _ => 0))), (q8, .inl (kZ, 24, .inl (fun _ => 0))), (q9, .inl (kI, 32, .inl (fun _ => 0))), (q10, .inl (kI, 33, .inl (fun _ => 0))), (q11, .inl (kI, 32, .inl (fun _ => 0))), (q12, .inl (kI, 400, .inl (fun _ => 0)))] 13 686
  refine o_aload hJ d_X_init_109 ?_
  refine o_sipush hJ (v := nI 400) d_X_init_110 (by decide) ?_
  refine o_newi hJ (n := 400) (by decide) d_X_init_113 (by decide) (by decide) (fun q13 => ?_)
  show J 115 [.ref q13, .ref h] [(h, .inr (cI false, [.ref q0, .ref q1, .ref q2, .ref q3, .ref q4, .ref q5, .ref q6, .ref q7, .ref q8, .ref q9, .ref q10, .ref q11, .ref q12, .null, .null, .null, .null, .null, .null, .null, .int 0, .int 0, .null, .null, .null, .int 0, .int 0, .int 0, .int 0, .int 0, .int 0])), (q0, .inl (kI, 13, .inl (fun _ => 0))), (q1, .inl (kI, 13, .inl (fun _ => 0))), (q2, .inl (kI, 26, .inl (fun _ => 0))), (q3, .inl (kI, 26, .inl (fun _ => 0))), (q4, .inl (kI, 26, .inl (fun _ => 0))), (q5, .inl (kI, 13, .inl (fun _ => 0))), (q6, .inl (kI, 24, .inl (fun _ => 0))), (q7, .inl (kI, 24, .inl (fun _ => 0))), (q8, .inl (kZ, 24, .inl (fun _ => 0))), (q9, .inl (kI, 32, .inl (fun _ => 0))), (q10, .inl (kI, 33, .inl (fun _ => 0))), (q11, .inl (kI, 32, .inl (fun _ => 0))), (q12, .inl (kI, 400, .inl (fun _ => 0))), (q13, .inl (kI, 400, .inl (fun _ => 0)))] 14 1086
  refine o_putF hJ (k := 13) (ty := .int) fl_X_13 (by decide) rfl (by decide +kernel) rfl (Nat.le_of_ble_eq_true rfl) d_X_init_115 ?_
  show J 118 [] [(h, .inr (cI false, [.ref q0, .ref q1, .ref q2, .ref q3, .ref q4, .ref q5, .ref q6, .ref q7, .ref q8, .ref q9, .ref q10, .ref q11, .ref q12, .ref q13, .null, .null, .null, .null, .null, .null, .int 0, .int 0, .null, .null, .null, .int 0, .int 0, .int 0, .int 0, .int 0, .int 0])), (q0, .inl (kI, 13, .inl (fun _ => 0))), (q1, .inl (kI, 13, .inl (fun _ => 0))), (q2, .inl (kI, 26, .inl (fun _ => 0))), (q3, .inl (kI, 26, .inl (fun _ => 0))), (q4, .inl (kI, 26, .inl (fun _ => 0))), (q5, .inl (kI, 13, .inl (fun _ => 0))), (q6, .inl (kI, 24, .inl (fun _ => 0))), (q7, .inl (kI, 24, .inl (fun _ => 0))), (q8, .inl (kZ, 24, .inl (fun _ => 0))), (q9, .inl (kI, 32, .inl (fun _ => 0))), (q10, .inl (kI, 33, .inl (fun _ => 0))), (q11, .inl (kI, 32, .inl (fun _ => 0))), (q12, .inl (kI, 400, .inl (fun _ => 0))), (q13, .inl (kI, 400, .inl (fun _ => 0)))] 14 1086
  refine o_aload hJ d_X_init_118 ?_
  refine o_bipush hJ (v := nI 64) d_X_init_119 (by decide) ?_
  refine o_newi hJ (n := 64) (by decide) d_X_init_121 (by decide) (by decide) (fun q14 => ?_)
  show J 123 [.ref q14, .ref h] [(h, .inr (cI false, [.ref q0, .ref q1, .ref q2, .ref q3, .ref q4, .ref q5, .ref q6, .ref q7, .ref q8, .ref q9, .ref q10, .ref q11, .ref q12, .ref q13, .null, .null, .null, .null, .null, .null, .int 0, .int 0, .null, .null, .null, .int 0, .int 0, .int 0, .int 0, .int 0, .int 0])), (q0, .inl (kI, 13, .inl (fun _ => 0))), (q1, .inl (kI, 13, .inl (fun _ => 0))), (q2, .inl (kI, 26, .inl (fun _ => 0))), (q3, .inl (kI, 26, .inl (fun _ => 0))), (q4, .inl (kI, 26, .inl (fun _ => 0))), (q5, .inl (kI, 13, .inl (fun _ => 0))), (q6, .inl (kI, 24, .inl (fun _ => 0))), (q7, .inl (kI, 24, .inl (fun _ => 0))), (q8, .inl (kZ, 24, .inl (fun _ => 0))), (q9, .inl (kI, 32, .inl (fun _ => 0))), (q10, .inl (kI, 33, .inl (fun _ => 0))), (q11, .inl (kI, 32, .inl (fun _ => 0))), (q12, .inl (kI, 400, .inl (fun _ => 0))), (q13, .inl (kI, 400, .inl (fun _ => 0))), (q14, .inl (kI, 64, .inl (fun _ => 0)))] 15 1150
  refine o_putF hJ (k := 14) (ty := .int) fl_X_14 (by decide) rfl (by decide +kernel) rfl (Nat.le_of_ble_eq_true rfl) d_X_init_123 ?_
  show J 126 [] [(h, .inr (cI false, [.ref q0, .ref q1, .ref q2, .ref q3, .ref q4, .ref q5, .ref q6, .ref q7, .ref q8, .ref q9, .ref q10, .ref q11, .ref q12, .ref q13, .ref q14, .null, .null, .null, .null, .null, .int 0, .int 0, .null, .null, .null, .int 0, .int 0, .int 0, .int 0, .int 0, .int 0])), (q0, .inl (kI, 13, .inl (fun _ => 0))), (q1, .inl (kI, 13, .inl (fun _ => 0))), (q2, .inl (kI, 26, .inl (fun _ => 0))), (q3, .inl (kI, 26, .inl (fun _ => 0))), (q4, .inl (kI, 26, .inl (fun _ => 0))), (q5, .inl (kI, 13, .inl (fun _ => 0))), (q6, .inl (kI, 24, .inl (fun _ => 0))), (q7, .inl (kI, 24, .inl (fun _ => 0))), (q8, .inl (kZ, 24, .inl (fun _ => 0))), (q9, .inl (kI, 32, .inl (fun _ => 0))), (q10, .inl (kI, 33, .inl (fun _ => 0))), (q11, .inl (kI, 32, .inl (fun _ => 0))), (q12, .inl (kI, 400, .inl (fun _ => 0))), (q13, .inl (kI, 400, .inl (fun _ => 0))), (q14, .inl (kI, 64, .inl (fun _ => 0)))] 15 1150
  refine o_aload hJ d_X_init_126 ?_
  refine o_bipush hJ (v := nI 64) d_X_init_127 (by decide) ?_
  refine o_newi hJ (n := 64) (by decide) d_X_init_129 (by decide) (by decide) (fun q15 => ?_)
  show J 131 [.ref q15, .ref h] [(h, .inr (cI false, [.ref q0, .ref q1, .ref q2, .ref q3, .ref q4, .ref q5, .ref q6, .ref q7, .ref q8, .ref q9, .ref q10, .ref q11, .ref q12, .ref q13, .ref q14, .null, .null, .null, .null, .null, .int 0, .int 0, .null, .null, .null, .int 0, .int 0, .int 0, .int 0, .int 0, .int 0])), (q0, .inl (kI, 13, .inl (fun _ => 0))), (q1, .inl (kI, 13, .inl (fun _ => 0))), (q2, .inl (kI, 26, .inl (fun _ => 0))), (q3, .inl (kI, 26, .inl (fun _ => 0))), (q4, .inl (kI, 26, .inl (fun _ => 0))), (q5, .inl (kI, 13, .inl (fun _ => 0))), (q6, .inl (kI, 24, .inl (fun _ => 0))), (q7, .inl (kI, 24, .inl (fun _ => 0))), (q8, .inl (kZ, 24, .inl (fun _ => 0))), (q9, .inl (kI, 32, .inl (fun _ => 0))), (q10, .inl (kI, 33, .inl (fun _ => 0))), (q11, .inl (kI, 32, .inl (fun _ => 0))), (q12, .inl (kI, 400, .inl (fun _ => 0))), (q13, .inl (kI, 400, .inl (fun _ => 0))), (q14, .inl (kI, 64, .inl (fun _ => 0))), (q15, .inl (kI, 64, .inl (fun _ => 0)))] 16 1214
  refine o_putF hJ (k := 15) (ty := .int) fl_X_15 (by decide) rfl (by decide +kernel) rfl (Nat.le_of_ble_eq_true rfl) d_X_init_131 ?_
  show J 134 [] [(h, .inr (cI false, [.ref q0, .ref q1, .ref q2, .ref q3, .ref q4, .ref q5, .ref q6, .ref q7, .ref q8, .ref q9, .ref q10, .ref q11, .ref q12, .ref q13, .ref q14, .ref q15, .null, .null, .null, .null, .int 0, .int 0, .null, .null, .null, .int 0, .int 0, .int 0, .int 0, .int 0, .int 0])), (q0, .inl (kI, 13, .inl (fun _ => 0))), (q1, .inl (kI, 13, .inl (fun _ => 0))), (q2, .inl (kI, 26, .inl (fun _ => 0))), (q3, .inl (kI, 26, .inl (fun _ => 0))), (q4, .inl (kI, 26, .inl (fun _ => 0))), (q5, .inl (kI, 13, .inl (fun _ => 0))), (q6, .inl (kI, 24, .inl (fun _ => 0))), (q7, .inl (kI, 24, .inl (fun _ => 0))), (q8, .inl (kZ, 24, .inl (fun _ => 0))), (q9, .inl (kI, 32, .inl (fun _ => 0))), (q10, .inl (kI, 33, .inl (fun _ => 0))), (q11, .inl (kI, 32, .inl (fun _ => 0))), (q12, .inl (kI, 400, .inl (fun _ => 0))), (q13, .inl (kI, 400, .inl (fun _ => 0))), (q14, .inl (kI, 64, .inl (fun _ => 0))), (q15, .inl (kI, 64, .inl (fun _ => 0)))] 16 1214
  refine o_aload hJ d_X_init_134 ?_
  refine o_bipush hJ (v := nI 64) d_X_init_135 (by decide) ?_
  refine o_newi hJ (n := 64) (by decide) d_X_init_137 (by decide) (by decide) (fun q16 => ?_)
  show J 139 [.ref q16, .ref h] [(h, .inr (cI false, [.ref q0, .ref q1, .ref q2, .ref q3, .ref q4, .ref q5, .ref q6, .ref q7, .ref q8, .ref q9, .ref q10, .ref q11, .ref q12, .ref q13, .ref q14, .ref q15, .null, .null, .null, .null, .int 0, .int 0, .null, .null, .null, .int 0, .int 0, .int 0, .int 0, .int 0, .int 0])), (q0, .inl (kI, 13, .inl (fun _ => 0))), (q1, .inl (kI, 13, .inl (fun _ => 0))), (q2, .inl (kI, 26, .inl (fun _ => 0))), (q3, .inl (kI, 26, .inl (fun _ => 0))), (q4, .inl (kI, 26, .inl (fun _ => 0))), (q5, .inl (kI, 13, .inl (fun _ => 0))), (q6, .inl (kI, 24, .inl (fun _ => 0))), (q7, .inl (kI, 24, .inl (fun _ => 0))), (q8, .inl (kZ, 24, .inl (fun _ => 0))), (q9, .inl (kI, 32, .inl (fun _ => 0))), (q10, .inl (kI, 33, .inl (fun _ => 0))), (q11, .inl (kI, 32, .inl (fun _ => 0))), (q12, .inl (kI, 400, .inl (fun _ => 0))), (q13, .inl (kI, 400, .inl (fun _ => 0))), (q14, .inl (kI, 64, .inl (fun _ => 0))), (q15, .inl (kI, 64, .inl (fun _ => 0))), (q16, .inl (kI, 64, .inl (fun _ => 0)))] 17 1278
  refine o_putF hJ (k := 16) (ty := .int) fl_X_16 (by decide) rfl (by decide +kernel) rfl (Nat.le_of_ble_eq_true rfl) d_X_init_139 ?_
  show J 142 [] [(h, .inr (cI false, [.ref q0, .ref q1, .ref q2, .ref q3, .ref q4, .ref q5, .ref q6, .ref q7, .ref q8, .ref q9, .ref q10, .ref q11, .ref q12, .ref q13, .ref q14, .ref q15, .ref q16, .null, .null, .null, .int 0, .int 0, .null, .null, .null, .int 0, .int 0, .int 0, .int 0, .int 0, .int 0])), (q0, .inl (kI, 13, .inl (fun _ => 0))), (q1, .inl (kI, 13, .inl (fun _ => 0))), (q2, .inl (kI, 26, .inl (fun _ => 0))), (q3, .inl (kI, 26, .inl (fun _ => 0))), (q4, .inl (kI, 26, .inl (fun _ => 0))), (q5, .inl (kI, 13, .inl (fun _ => 0))), (q6, .inl (kI, 24, .inl (fun _ => 0))), (q7, .inl (kI, 24, .inl (fun _ => 0))), (q8, .inl (kZ, 24, .inl (fun _ => 0))), (q9, .inl (kI, 32, .inl (fun _ => 0))), (q10, .inl (kI, 33, .inl (fun _ => 0))), (q11, .inl (kI, 32, .inl (fun _ => 0))), (q12, .inl (kI, 400, .inl (fun _ => 0))), (q13, .inl (kI, 400, .inl (fun _ => 0))), (q14, .inl (kI, 64, .inl (fun _ => 0))), (q15, .inl (kI, 64, .inl (fun _ => 0))), (q16, .inl (kI, 64, .inl (fun _ => 0)))] 17 1278
  refine o_aload hJ d_X_init_142 ?_
  refine o_bipush hJ (v := nI 64) d_X_init_143 (by decide) ?_
  refine o_newi hJ (n := 64) (by decide) d_X_init_145 (by decide) (by decide) (fun q17 => ?_)
  show J 147 [.ref q17, .ref h] [(h, .inr (cI false, [.ref q0, .ref q1, .ref q2, .ref q3, .ref q4, .ref q5, .ref q6, .ref q7, .ref q8, .ref q9, .ref q10, .ref q11, .ref q12, .ref q13, .ref q14, .ref q15, .ref q16, .null, .null, .null, .int 0, .int 0, .null, .null, .null, .int 0, .int 0, .int 0, .int 0, .int 0, .int 0])), (q0, .inl (kI, 13, .inl (fun _ => 0))), (q1, .inl (kI, 13, .inl (fun _ => 0))), (q2, .inl (kI, 26, .inl (fun _ => 0))), (q3, .inl (kI, 26, .inl (fun _ => 0))), (q4, .inl (kI, 26, .inl (fun _ => 0))), (q5, .inl (kI, 13, .inl (fun _ => 0))), (q6, .inl (kI, 24, .inl (fun _ => 0))), (q7, .inl (kI, 24, .inl (fun _ => 0))), (q8, .inl (kZ, 24, .inl (fun _ => 0))), (q9, .inl (kI, 32, .inl (fun _ => 0))), (q10, .inl (kI, 33, .inl (fun _ => 0))), (q11, .inl (kI, 32, .inl (fun _ => 0))), (q12, .inl (kI, 400, .inl (fun _ => 0))), (q13, .inl (kI, 400, .inl (fun _ => 0))), (q14, .inl (kI, 64, .inl (fun _ => 0))), (q15, .inl (kI, 64, .inl (fun _ => 0))), (q16, .inl (kI, 64, .inl (fun _ => 0))), (q17, .inl (kI, 64, .inl (fun _ => 0)))] 18 1342
  refine o_putF hJ (k := 17) (ty := .int) fl_X_17 (by decide) rfl (by decide +kernel) rfl (Nat.le_of_ble_eq_true rfl) d_X_init_147 ?_
  show J 150 [] [(h, .inr (cI false, [.ref q0, .ref q1, .ref q2, .ref q3, .ref q4, .ref q5, .ref q6, .ref q7, .ref q8, .ref q9, .ref q10, .ref q11, .ref q12, .ref q13, .ref q14, .ref q15, .ref q16, .ref q17, .null, .null, .int 0, .int 0, .null, .null, .null, .int 0, .int 0, .int 0, .int 0, .int 0, .int 0])), (q0, .inl (kI, 13, .inl (fun _ => 0))), (q1, .inl (kI, 13, .inl (fun _ => 0))), (q2, .inl (kI, 26, .inl (fun _ => 0))), (q3, .inl (kI, 26, .inl (fun _ => 0))), (q4, .inl (kI, 26, .inl (fun _ => 0))), (q5, .inl (kI, 13, .inl (fun _ => 0))), (q6, .inl (kI, 24, .inl (fun _ => 0))), (q7, .inl (kI, 24, .inl (fun _ => 0))), (q8, .inl (kZ, 24, .inl (fun _ => 0))), (q9, .inl (kI, 32, .inl (fun _ => 0))), (q10, .inl (kI, 33, .inl (fun _ => 0))), (q11, .inl (kI, 32, .inl (fun _ => 0))), (q12, .inl (kI, 400, .inl (fun _ => 0))), (q13, .inl (kI, 400, .inl (fun _ => 0))), (q14, .inl (kI, 64, .inl (fun _ => 0))), (q15, .inl (kI, 64, .inl (fun _ => 0))), (q16, .inl (kI, 64, .inl (fun _ => 0))), (q17, .inl (kI, 64, .inl (fun _ => 0)))] 18 1342
  refine o_aload hJ d_X_init_150 ?_
  refine o_bipush hJ (v := nI 64) d_X_init_151 (by decide) ?_
  refine o_newi hJ (n := 64) (by decide) d_X_init_153 (by decide) (by decide) (fun q18 => ?_)
  show J 155 [.ref q18, .ref h] [(h, .inr (cI false, [.ref q0, .ref q1, .ref q2, .ref q3, .ref q4, .ref q5, .ref q6, .ref q7, .ref q8, .ref q9, .ref q10, .ref q11, .ref q12, .ref q13, .ref q14, .ref q15, .ref q16, .ref q17, .null, .null, .int 0, .int 0, .null, .null, .null, .int 0, .int 0, .int 0, .int 0, .int 0, .int 0])), (q0, .inl (kI, 13, .inl (fun _ => 0))), (q1, .inl (kI, 13, .inl (fun _ => 0))), (q2, .inl (kI, 26, .inl (fun _ => 0))), (q3, .inl (kI, 26, .inl (fun _ => 0))), (q4, .inl (kI, 26, .inl (fun _ => 0))), (q5, .inl (kI, 13, .inl (fun _ => 0))), (q6, .inl (kI, 24, .inl (fun _ => 0))), (q7, .inl (kI, 24, .inl (fun _ => 0))), (q8, .inl (kZ, 24, .inl (fun _ => 0))), (q9, .inl (kI, 32, .inl (fun _ => 0))), (q10, .inl (kI, 33, .inl (fun _ => 0))), (q11, .inl (kI, 32, .inl (fun _ => 0))), (q12, .inl (kI, 400, .inl (fun _ => 0))), (q13, .inl (kI, 400, .inl (fun _ => 0))), (q14, .inl (kI, 64, .inl (fun _ => 0))), (q15, .inl (kI, 64, .inl (fun _ => 0))), (q16, .inl (kI, 64, .inl (fun _ => 0))), (q17, .inl (kI, 64, .inl (fun _ => 0))), (q18, .inl (kI, 64, .inl (fun _ => 0)))] 19 1406
  refine o_putF hJ (k := 18) (ty := .int) fl_X_18 (by decide) rfl (by decide +kernel) rfl (Nat.le_of_ble_eq_true rfl) d_X_init_155 ?_
  show J 158 [] [(h, .inr (cI false, [.ref q0, .ref q1, .ref q2, .ref q3, .ref q4, .ref q5, .ref q6, .ref q7, .ref q8, .ref q9, .ref q10, .ref q11, .ref q12, .ref q13, .ref q14, .ref q15, .ref q16, .ref q17, .ref q18, .null, .int 0, .int 0, .null, .null, .null, .int 0, .int 0, .int 0, .int 0, .int 0, .int 0])), (q0, .inl (kI, 13, .inl (fun _ => 0))), (q1, .inl (kI, 13, .inl (fun _ => 0))), (q2, .inl (kI, 26, .inl (fun _ => 0))), (q3, .inl (kI, 26, .inl (fun _ => 0))), (q4, .inl (kI, 26, .inl (fun _ => 0))), (q5, .inl (kI, 13, .inl (fun _ => 0))), (q6, .inl (kI, 24, .inl (fun _ => 0))), (q7, .inl (kI, 24, .inl (fun _ => 0))), (q8, .inl (kZ, 24, .inl (fun _ => 0))), (q9, .inl (kI, 32, .inl (fun _ => 0))), (q10, .inl (kI, 33, .inl (fun _ => 0))), (q11, .inl (kI, 32, .inl (fun _ => 0))), (q12, .inl (kI, 400, .inl (fun _ => 0))), (q13, .inl (kI, 400, .inl (fun _ => 0))), (q14, .inl (kI, 64, .inl (fun _ => 0))), (q15, .inl (kI, 64, .inl (fun _ => 0))), (q16, .inl (kI, 64, .inl (fun _ => 0))), (q17, .inl (kI, 64, .inl (fun _ => 0))), (q18, .inl (kI, 64, .inl (fun _ => 0)))] 19 1406
  refine o_aload hJ d_X_init_158 ?_
  refine o_iconst hJ (v := nI 2) d_X_init_159 (by decide) ?_
  refine o_newi hJ (n := 2) (by decide) d_X_init_160 (by decide) (by decide) (fun q19 => ?_)
  show J 162 [.ref q19, .ref h] [(h, .inr (cI false, [.ref q0, .ref q1, .ref q2, .ref q3, .ref q4, .ref q5, .ref q6, .ref q7, .ref q8, .ref q9, .ref q10, .ref q11, .ref q12, .ref q13, .ref q14, .ref q15, .ref q16, .ref q17, .ref q18, .null, .int 0, .int 0, .null, .null, .null, .int 0, .int 0, .int 0, .int 0, .int 0, .int 0])), (q0, .inl (kI, 13, .inl (fun _ => 0))), (q1, .inl (kI, 13, .inl (fun _ => 0))), (q2, .inl (kI, 26, .inl (fun _ => 0))), (q3, .inl (kI, 26, .inl (fun _ => 0))), (q4, .inl (kI, 26, .inl (fun _ => 0))), (q5, .inl (kI, 13, .inl (fun _ => 0))), (q6, .inl (kI, 24, .inl (fun _ => 0))), (q7, .inl (kI, 24, .inl (fun _ => 0))), (q8, .inl (kZ, 24, .inl (fun _ => 0))), (q9, .inl (kI, 32, .inl (fun _ => 0))), (q10, .inl (kI, 33, .inl (fun _ => 0))), (q11, .inl (kI, 32, .inl (fun _ => 0))), (q12, .inl (kI, 400, .inl (fun _ => 0))), (q13, .inl (kI, 400, .inl (fun _ => 0))), (q14, .inl (kI, 64, .inl (fun _ => 0))), (q15, .inl (kI, 64, .inl (fun _ => 0))), (q16, .inl (kI, 64, .inl (fun _ => 0))), (q17, .inl (kI, 64, .inl (fun _ => 0))), (q18, .inl (kI, 64, .inl (fun _ => 0))), (q19, .inl (kI, 2, .inl (fun _ => 0)))] 20 1408
  refine o_putF hJ (k := 19) (ty := .int) fl_X_19 (by decide) rfl (by decide +kernel) rfl (Nat.le_of_ble_eq_true rfl) d_X_init_162 ?_
  show J 165 [] [(h, .inr (cI false, [.ref q0, .ref q1, .ref q2, .ref q3, .ref q4, .ref q5, .ref q6, .ref q7, .ref q8, .ref q9, .ref q10, .ref q11, .ref q12, .ref q13, .ref q14, .ref q15, .ref q16, .ref q17, .ref q18, .ref q19, .int 0, .int 0, .null, .null, .null, .int 0, .int 0, .int 0, .int 0, .int 0, .int 0])), (q0, .inl (kI, 13, .inl (fun _ => 0))), (q1, .inl (kI, 13, .inl (fun _ => 0))), (q2, .inl (kI, 26, .inl (fun _ => 0))), (q3, .inl (kI, 26, .inl (fun _ => 0))), (q4, .inl (kI, 26, .inl (fun _ => 0))), (q5, .inl (kI, 13, .inl (fun _ => 0))), (q6, .inl (kI, 24, .inl (fun _ => 0))), (q7, .inl (kI, 24, .inl (fun _ => 0))), (q8, .inl (kZ, 24, .inl (fun _ => 0))), (q9, .inl (kI, 32, .inl (fun _ => 0))), (q10, .inl (kI, 33, .inl (fun _ => 0))), (q11, .inl (kI, 32, .inl (fun _ => 0))), (q12, .inl (kI, 400, .inl (fun _ => 0))), (q13, .inl (kI, 400, .inl (fun _ => 0))), (q14, .inl (kI, 64, .inl (fun _ => 0))), (q15, .inl (kI, 64, .inl (fun _ => 0))), (q16, .inl (kI, 64, .inl (fun _ => 0))), (q17, .inl (kI, 64, .inl (fun _ => 0))), (q18, .inl (kI, 64, .inl (fun _ => 0))), (q19, .inl (kI, 2, .inl (fun _ => 0)))] 20 1408
  refine o_aload hJ d_X_init_165 ?_
  refine o_iconst hJ (v := nI 2) d_X_init_166 (by decide) ?_
  refine o_newi hJ (n := 2) (by decide) d_X_init_167 (by decide) (by decide) (fun q20 => ?_)
  show J 169 [.ref q20, .ref h] [(h, .inr (cI false, [.ref q0, .ref q1, .ref q2, .ref q3, .ref q4, .ref q5, .ref q6, .ref q7, .ref q8, .ref q9, .ref q10, .ref q11, .ref q12, .ref q13, .ref q14, .ref q15, .ref q16, .ref q17, .ref q18, .ref q19, .int 0, .int 0, .null, .null, .null, .int 0, .int 0, .int 0, .int 0, .int 0, .int 0])), (q0, .inl (kI, 13, .inl (fun _ => 0))), (q1, .inl (kI, 13, .inl (fun _ => 0))), (q2, .inl (kI, 26, .inl (fun _ => 0))), (q3, .inl (kI, 26, .inl (fun _ => 0))), (q4, .inl (kI, 26, .inl (fun _ => 0))), (q5, .inl (kI, 13, .inl (fun _ => 0))), (q6, .inl (kI, 24, .inl (fun _ => 0))), (q7, .inl (kI, 24, .inl (fun _ => 0))), (q8, .inl (kZ, 24, .inl (fun _ => 0))), (q9, .inl (kI, 32, .inl (fun _ => 0))), (q10, .inl (kI, 33, .inl (fun _ => 0))), (q11, .inl (kI, 32, .inl (fun _ => 0))), (q12, .inl (kI, 400, .inl (fun _ => 0))), (q13, .inl (kI, 400, .inl (fun _ => 0))), (q14, .inl (kI, 64, .inl (fun _ => 0))), (q15, .inl (kI, 64, .inl (fun _ => 0))), (q16, .inl (kI, 64, .inl (fun _ => 0))), (q17, .inl (kI, 64, .inl (fun _ => 0))), (q18, .inl (kI, 64, .inl (fun _ => 0))), (q19, .inl (kI, 2, .inl (fun _ => 0))), (q20, .inl (kI, 2, .inl (fun _ => 0)))] 21 1410
  refine o_putF hJ (k := 22) (ty := .int) fl_X_22 (by decide) rfl (by decide +kernel) rfl (Nat.le_of_ble_eq_true rfl) d_X_init_169 ?_
  show J 172 [] [(h, .inr (cI false, [.ref q0, .ref q1, .ref q2, .ref q3, .ref q4, .ref q5, .ref q6, .ref q7, .ref q8, .ref q9, .ref q10, .ref q11, .ref q12, .ref q13, .ref q14, .ref q15, .ref q16, .ref q17, .ref q18, .ref q19, .int 0, .int 0, .ref q20, .null, .null, .int 0, .int 0, .int 0, .int 0, .int 0, .int 0])), (q0, .inl (kI, 13, .inl (fun _ => 0))), (q1, .inl (kI, 13, .inl (fun _ => 0))), (q2, .inl (kI, 26, .inl (fun _ => 0))), (q3, .inl (kI, 26, .inl (fun _ => 0))), (q4, .inl (kI, 26, .inl (fun _ => 0))), (q5, .inl (kI, 13, .inl (fun _ => 0))), (q6, .inl (kI, 24, .inl (fun _ => 0))), (q7, .inl (kI, 24, .inl (fun _ => 0))), (q8, .inl (kZ, 24, .inl (fun _ => 0))), (q9, .inl (kI, 32, .inl (fun _ => 0))), (q10, .inl (kI, 33, .inl (fun _ => 0))), (q11, .inl (kI, 32, .inl (fun _ => 0))), (q12, .inl (kI, 400, .inl (fun _ => 0))), (q13, .inl (kI, 400, .inl (fun _ => 0))), (q14, .inl (kI, 64, .inl (fun _ => 0))), (q15, .inl (kI, 64, .inl (fun _ => 0))), (q16, .inl (kI, 64, .inl (fun _ => 0))), (q17, .inl (kI, 64, .inl (fun _ => 0))), (q18, .inl (kI, 64, .inl (fun _ => 0))), (q19, .inl (kI, 2, .inl (fun _ => 0))), (q20, .inl (kI, 2, .inl (fun _ => 0)))] 21 1410
  refine o_aload hJ d_X_init_172 ?_
  refine o_iconst hJ (v := nI 2) d_X_init_173 (by decide) ?_
  refine o_newi hJ (n := 2) (by decide) d_X_init_174 (by decide) (by decide) (fun q21 => ?_)
  show J 176 [.ref q21, .ref h] [(h, .inr (cI false, [.ref q0, .ref q1, .ref q2, .ref q3, .ref q4, .ref q5, .ref q6, .ref q7, .ref q8, .ref q9, .ref q10, .ref q11, .ref q12, .ref q13, .ref q14, .ref q15, .ref q16, .ref q17, .ref q18, .ref q19, .int 0, .int 0, .ref q20, .null, .null, .int 0, .int 0, .int 0, .int 0, .int 0, .int 0])), (q0, .inl (kI, 13, .inl (fun _ => 0))), (q1, .inl (kI, 13, .inl (fun _ => 0))), (q2, .inl (kI, 26, .inl (fun _ => 0))), (q3, .inl (kI, 26, .inl (fun _ => 0))), (q4, .inl (kI, 26, .inl (fun _ => 0))), (q5, .inl (kI, 13, .inl (fun _ => 0))), (q6, .inl (kI, 24, .inl (fun _ => 0))), (q7, .inl (kI, 24, .inl (fun _ => 0))), (q8, .inl (kZ, 24, .inl (fun _ => 0))), (q9, .inl (kI, 32, .inl (fun _ => 0))), (q10, .inl (kI, 33, .inl (fun _ => 0))), (q11, .inl (kI, 32, .inl (fun _ => 0))), (q12, .inl (kI, 400, .inl (fun _ => 0))), (q13, .inl (kI, 400, .inl (fun _ => 0))), (q14, .inl (kI, 64, .inl (fun _ => 0))), (q15, .inl (kI, 64, .inl (fun _ => 0))), (q16, .inl (kI, 64, .inl (fun _ => 0))), (q17, .inl (kI, 64, .inl (fun _ => 0))), (q18, .inl (kI, 64, .inl (fun _ => 0))), (q19, .inl (kI, 2, .inl (fun _ => 0))), (q20, .inl (kI, 2, .inl (fun _ => 0))), (q21, .inl (kI, 2, .inl (fun _ => 0)))] 22 1412
  refine o_putF hJ (k := 23) (ty := .int) fl_X_23 (by decide) rfl (by decide +kernel) rfl (Nat.le_of_ble_eq_true rfl) d_X_init_176 ?_
  show J 179 [] [(h, .inr (cI false, [.ref q0, .ref q1, .ref q2, .ref q3, .ref q4, .ref q5, .ref q6, .ref q7, .ref q8, .ref q9, .ref q10, .ref q11, .ref q12, .ref q13, .ref q14, .ref q15, .ref q16, .ref q17, .ref q18, .ref q19, .int 0, .int 0, .ref q20, .ref q21, .null, .int 0, .int 0, .int 0, .int 0, .int 0, .int 0])), (q0, .inl (kI, 13, .inl (fun _ => 0))), (q1, .inl (kI, 13, .inl (fun _ => 0))), (q2, .inl (kI, 26, .inl (fun _ => 0))), (q3, .inl (kI, 26, .inl (fun _ => 0))), (q4, .inl (kI, 26, .inl (fun _ => 0))), (q5, .inl (kI, 13, .inl (fun _ => 0))), (q6, .inl (kI, 24, .inl (fun _ => 0))), (q7, .inl (kI, 24, .inl (fun _ => 0))), (q8, .inl (kZ, 24, .inl (fun _ => 0))), (q9, .inl (kI, 32, .inl (fun _ => 0))), (q10, .inl (kI, 33, .inl (fun _ => 0))), (q11, .inl (kI, 32, .inl (fun _ => 0))), (q12, .inl (kI, 400, .inl (fun _ => 0))), (q13, .inl (kI, 400, .inl (fun _ => 0))), (q14, .inl (kI, 64, .inl (fun _ => 0))), (q15, .inl (kI, 64, .inl (fun _ => 0))), (q16, .inl (kI, 64, .inl (fun _ => 0))), (q17, .inl (kI, 64, .inl (fun _ => 0))), (q18, .inl (kI, 64, .inl (fun _ => 0))), (q19, .inl (kI, 2, .inl (fun _ => 0))), (q20, .inl (kI, 2, .inl (fun _ => 0))), (q21, .inl (kI, 2, .inl (fun _ => 0)))] 22 1412
  refine o_aload hJ d_X_init_179 ?_
  refine o_iconst hJ (v := nI 2) d_X_init_180 (by decide) ?_
  refine o_newi hJ (n := 2) (by decide) d_X_init_181 (by decide) (by decide) (fun q22 => ?_)
  show J 183 [.ref q22, .ref h] [(h, .inr (cI false, [.ref q0, .ref q1, .ref q2, .ref q3, .ref q4, .ref q5, .ref q6, .ref q7, .ref q8, .ref q9, .ref q10, .ref q11, .ref q12, .ref q13, .ref q14, .ref q15, .ref q16, .ref q17, .ref q18, .ref q19, .int 0, .int 0, .ref q20, .ref q21, .null, .int 0, .int 0, .int 0, .int 0, .int 0, .int 0])), (q0, .inl (kI, 13, .inl (fun _ => 0))), (q1, .inl (kI, 13, .inl (fun _ => 0))), (q2, .inl (kI, 26, .inl (fun _ => 0))), (q3, .inl (kI, 26, .inl (fun _ => 0))), (q4, .inl (kI, 26, .inl (fun _ => 0))), (q5, .inl (kI, 13, .inl (fun _ => 0))), (q6, .inl (kI, 24, .inl (fun _ => 0))), (q7, .inl (kI, 24, .inl (fun _ => 0))), (q8, .inl (kZ, 24, .inl (fun _ => 0))), (q9, .inl (kI, 32, .inl (fun _ => 0))), (q10, .inl (kI, 33, .inl (fun _ => 0))), (q11, .inl (kI, 32, .inl (fun _ => 0))), (q12, .inl (kI, 400, .inl (fun _ => 0))), (q13, .inl (kI, 400, .inl (fun _ => 0))), (q14, .inl (kI, 64, .inl (fun _ => 0))), (q15, .inl (kI, 64, .inl (fun _ => 0))), (q16, .inl (kI, 64, .inl (fun _ => 0))), (q17, .inl (kI, 64, .inl (fun _ => 0))), (q18, .inl (kI, 64, .inl (fun _ => 0))), (q19, .inl (kI, 2, .inl (fun _ => 0))), (q20, .inl (kI, 2, .inl (fun _ => 0))), (q21, .inl (kI, 2, .inl (fun _ => 0))), (q22, .inl (kI, 2, .inl (fun _ => 0)))] 23 1414
  refine o_putF hJ (k := 24) (ty := .int) fl_X_24 (by decide) rfl (by decide +kernel) rfl (Nat.le_of_ble_eq_true rfl) d_X_init_183 ?_
  show J 186 [] [(h, .inr (cI false, [.ref q0, .ref q1, .ref q2, .ref q3, .ref q4, .ref q5, .ref q6, .ref q7, .ref q8, .ref q9, .ref q10, .ref q11, .ref q12, .ref q13, .ref q14, .ref q15, .ref q16, .ref q17, .ref q18, .ref q19, .int 0, .int 0, .ref q20, .ref q21, .ref q22, .int 0, .int 0, .int 0, .int 0, .int 0, .int 0])), (q0, .inl (kI, 13, .inl (fun _ => 0))), (q1, .inl (kI, 13, .inl (fun _ => 0))), (q2, .inl (kI, 26, .inl (fun _ => 0))), (q3, .inl (kI, 26, .inl (fun _ => 0))), (q4, .inl (kI, 26, .inl (fun _ => 0))), (q5, .inl (kI, 13, .inl (fun _ => 0))), (q6, .inl (kI, 24, .inl (fun _ => 0))), (q7, .inl (kI, 24, .inl (fun _ => 0))), (q8, .inl (kZ, 24, .inl (fun _ => 0))), (q9, .inl (kI, 32, .inl (fun _ => 0))), (q10, .inl (kI, 33, .inl (fun _ => 0))), (q11, .inl (kI, 32, .inl (fun _ => 0))), (q12, .inl (kI, 400, .inl (fun _ => 0))), (q13, .inl (kI, 400, .inl (fun _ => 0))), (q14, .inl (kI, 64, .inl (fun _ => 0))), (q15, .inl (kI, 64, .inl (fun _ => 0))), (q16, .inl (kI, 64, .inl (fun _ => 0))), (q17, .inl (kI, 64, .inl (fun _ => 0))), (q18, .inl (kI, 64, .inl (fun _ => 0))), (q19, .inl (kI, 2, .inl (fun _ => 0))), (q20, .inl (kI, 2, .inl (fun _ => 0))), (q21, .inl (kI, 2, .inl (fun _ => 0))), (q22, .inl (kI, 2, .inl (fun _ => 0)))] 23 1414
  refine o_aload hJ d_X_init_186 ?_
  refine o_bipush hJ (v := nI 31) d_X_init_187 (by decide) ?_
  refine o_putN hJ (k := 21) (ty := .int) fl_X_21 (by decide) rfl (by decide +kernel) rfl rfl rfl (Nat.le_of_ble_eq_true rfl) d_X_init_189 ?_
  show J 192 [] [(h, .inr (cI false, [.ref q0, .ref q1, .ref q2, .ref q3, .ref q4, .ref q5, .ref q6, .ref q7, .ref q8, .ref q9, .ref q10, .ref q11, .ref q12, .ref q13, .ref q14, .ref q15, .ref q16, .ref q17, .ref q18, .ref q19, .int 0, .int (nI 31), .ref q20, .ref q21, .ref q22, .int 0, .int 0, .int 0, .int 0, .int 0, .int 0])), (q0, .inl (kI, 13, .inl (fun _ => 0))), (q1, .inl (kI, 13, .inl (fun _ => 0))), (q2, .inl (kI, 26, .inl (fun _ => 0))), (q3, .inl (kI, 26, .inl (fun _ => 0))), (q4, .inl (kI, 26, .inl (fun _ => 0))), (q5, .inl (kI, 13, .inl (fun _ => 0))), (q6, .inl (kI, 24, .inl (fun _ => 0))), (q7, .inl (kI, 24, .inl (fun _ => 0))), (q8, .inl (kZ, 24, .inl (fun _ => 0))), (q9, .inl (kI, 32, .inl (fun _ => 0))), (q10, .inl (kI, 33, .inl (fun _ => 0))), (q11, .inl (kI, 32, .inl (fun _ => 0))), (q12, .inl (kI, 400, .inl (fun _ => 0))), (q13, .inl (kI, 400, .inl (fun _ => 0))), (q14, .inl (kI, 64, .inl (fun _ => 0))), (q15, .inl (kI, 64, .inl (fun _ => 0))), (q16, .inl (kI, 64, .inl (fun _ => 0))), (q17, .inl (kI, 64, .inl (fun _ => 0))), (q18, .inl (kI, 64, .inl (fun _ => 0))), (q19, .inl (kI, 2, .inl (fun _ => 0))), (q20, .inl (kI, 2, .inl (fun _ => 0))), (q21, .inl (kI, 2, .inl (fun _ => 0))), (q22, .inl (kI, 2, .inl (fun _ => 0)))] 23 1414
  exact hret 192 (fun k => ([q0, q1, q2, q3, q4, q5, q6, q7, q8, q9, q10, q11, q12, q13, q14, q15, q16, q17, q18, q19, 0, 0, q20, q21, q22, 0, 0, 0, 0, 0, 0] : List Nat).getD k 0) _ d_X_init_192 rfl
def fs0_M : List Value := [.null, .null, .null, .null, .null, .null, .int 0, .int 0, .null]
set_option maxHeartbeats 4000000 in
set_option maxRecDepth 100000 in
theorem c_M_init (D : va_G) (kI kZ : ClassId) (l : Launch) (h : Nat) : oM true D kI kZ l y_M_init b_M_init { frames := 1, cells := 7, slots := 128, locals := 12 } h fs0_M 7 128 (fun _ => 0) (up2 (fun _ _ => 0) 1 12 (nI 31)) := by
  refine o_met rfl rfl (fun J hJ hret => ?_)
  show J 0 [] [(h, .inr (cI true, [.null, .null, .null, .null, .null, .null, .int 0, .int 0, .null]))] 0 0
  refine o_aload hJ d_M_init_0 ?_
  refine o_obj hJ oi_M d_M_init_1 (by decide) (by decide) ?_
  refine o_aload hJ d_M_init_4 ?_
  refine o_bipush hJ (v := nI 14) d_M_init_5 (by decide) ?_
  refine o_newi hJ (n := 14) (by decide) d_M_init_7 (by decide) (by decide) (fun q0 => ?_)
  show J 9 [.ref q0, .ref h] [(h, .inr (cI true, [.null, .null, .null, .null, .null, .null, .int 0, .int 0, .null])), (q0, .inl (kI, 14, .inl (fun _ => 0)))] 1 14
  refine o_putN hJ (k := 0) (ty := .array .int) fl_M_0 (by decide) rfl (by decide +kernel) rfl rfl rfl (Nat.le_of_ble_eq_true rfl) d_M_init_9 ?_
  show J 12 [] [(h, .inr (cI true, [.ref q0, .null, .null, .null, .null, .null, .int 0, .int 0, .null])), (q0, .inl (kI, 14, .inl (fun _ => 0)))] 1 14
  refine o_aload hJ d_M_init_12 ?_
  refine o_bipush hJ (v := nI 14) d_M_init_13 (by decide) ?_
  refine o_newi hJ (n := 14) (by decide) d_M_init_15 (by decide) (by decide) (fun q1 => ?_)
  show J 17 [.ref q1, .ref h] [(h, .inr (cI true, [.ref q0, .null, .null, .null, .null, .null, .int 0, .int 0, .null])), (q0, .inl (kI, 14, .inl (fun _ => 0))), (q1, .inl (kI, 14, .inl (fun _ => 0)))] 2 28
  refine o_putN hJ (k := 1) (ty := .array .int) fl_M_1 (by decide) rfl (by decide +kernel) rfl rfl rfl (Nat.le_of_ble_eq_true rfl) d_M_init_17 ?_
  show J 20 [] [(h, .inr (cI true, [.ref q0, .ref q1, .null, .null, .null, .null, .int 0, .int 0, .null])), (q0, .inl (kI, 14, .inl (fun _ => 0))), (q1, .inl (kI, 14, .inl (fun _ => 0)))] 2 28
  refine o_aload hJ d_M_init_20 ?_
  refine o_bipush hJ (v := nI 14) d_M_init_21 (by decide) ?_
  refine o_newi hJ (n := 14) (by decide) d_M_init_23 (by decide) (by decide) (fun q2 => ?_)
  show J 25 [.ref q2, .ref h] [(h, .inr (cI true, [.ref q0, .ref q1, .null, .null, .null, .null, .int 0, .int 0, .null])), (q0, .inl (kI, 14, .inl (fun _ => 0))), (q1, .inl (kI, 14, .inl (fun _ => 0))), (q2, .inl (kI, 14, .inl (fun _ => 0)))] 3 42
  refine o_putN hJ (k := 2) (ty := .array .int) fl_M_2 (by decide) rfl (by decide +kernel) rfl rfl rfl (Nat.le_of_ble_eq_true rfl) d_M_init_25 ?_
  show J 28 [] [(h, .inr (cI true, [.ref q0, .ref q1, .ref q2, .null, .null, .null, .int 0, .int 0, .null])), (q0, .inl (kI, 14, .inl (fun _ => 0))), (q1, .inl (kI, 14, .inl (fun _ => 0))), (q2, .inl (kI, 14, .inl (fun _ => 0)))] 3 42
  refine o_aload hJ d_M_init_28 ?_
  refine o_bipush hJ (v := nI 28) d_M_init_29 (by decide) ?_
  refine o_newi hJ (n := 28) (by decide) d_M_init_31 (by decide) (by decide) (fun q3 => ?_)
  show J 33 [.ref q3, .ref h] [(h, .inr (cI true, [.ref q0, .ref q1, .ref q2, .null, .null, .null, .int 0, .int 0, .null])), (q0, .inl (kI, 14, .inl (fun _ => 0))), (q1, .inl (kI, 14, .inl (fun _ => 0))), (q2, .inl (kI, 14, .inl (fun _ => 0))), (q3, .inl (kI, 28, .inl (fun _ => 0)))] 4 70
  refine o_putN hJ (k := 3) (ty := .array .int) fl_M_3 (by decide) rfl (by decide +kernel) rfl rfl rfl (Nat.le_of_ble_eq_true rfl) d_M_init_33 ?_
  show J 36 [] [(h, .inr (cI true, [.ref q0, .ref q1, .ref q2, .ref q3, .null, .null, .int 0, .int 0, .null])), (q0, .inl (kI, 14, .inl (fun _ => 0))), (q1, .inl (kI, 14, .inl (fun _ => 0))), (q2, .inl (kI, 14, .inl (fun _ => 0))), (q3, .inl (kI, 28, .inl (fun _ => 0)))] 4 70
  refine o_aload hJ d_M_init_36 ?_
  refine o_bipush hJ (v := nI 28) d_M_init_37 (by decide) ?_
  refine o_newi hJ (n := 28) (by decide) d_M_init_39 (by decide) (by decide) (fun q4 => ?_)
  show J 41 [.ref q4, .ref h] [(h, .inr (cI true, [.ref q0, .ref q1, .ref q2, .ref q3, .null, .null, .int 0, .int 0, .null])), (q0, .inl (kI, 14, .inl (fun _ => 0))), (q1, .inl (kI, 14, .inl (fun _ => 0))), (q2, .inl (kI, 14, .inl (fun _ => 0))), (q3, .inl (kI, 28, .inl (fun _ => 0))), (q4, .inl (kI, 28, .inl (fun _ => 0)))] 5 98
  refine o_putN hJ (k := 4) (ty := .array .int) fl_M_4 (by decide) rfl (by decide +kernel) rfl rfl rfl (Nat.le_of_ble_eq_true rfl) d_M_init_41 ?_
  show J 44 [] [(h, .inr (cI true, [.ref q0, .ref q1, .ref q2, .ref q3, .ref q4, .null, .int 0, .int 0, .null])), (q0, .inl (kI, 14, .inl (fun _ => 0))), (q1, .inl (kI, 14, .inl (fun _ => 0))), (q2, .inl (kI, 14, .inl (fun _ => 0))), (q3, .inl (kI, 28, .inl (fun _ => 0))), (q4, .inl (kI, 28, .inl (fun _ => 0)))] 5 98
  refine o_aload hJ d_M_init_44 ?_
  refine o_bipush hJ (v := nI 28) d_M_init_45 (by decide) ?_
  refine o_newi hJ (n := 28) (by decide) d_M_init_47 (by decide) (by decide) (fun q5 => ?_)
  show J 49 [.ref q5, .ref h] [(h, .inr (cI true, [.ref q0, .ref q1, .ref q2, .ref q3, .ref q4, .null, .int 0, .int 0, .null])), (q0, .inl (kI, 14, .inl (fun _ => 0))), (q1, .inl (kI, 14, .inl (fun _ => 0))), (q2, .inl (kI, 14, .inl (fun _ => 0))), (q3, .inl (kI, 28, .inl (fun _ => 0))), (q4, .inl (kI, 28, .inl (fun _ => 0))), (q5, .inl (kI, 28, .inl (fun _ => 0)))] 6 126
  refine o_putN hJ (k := 5) (ty := .array .int) fl_M_5 (by decide) rfl (by decide +kernel) rfl rfl rfl (Nat.le_of_ble_eq_true rfl) d_M_init_49 ?_
  show J 52 [] [(h, .inr (cI true, [.ref q0, .ref q1, .ref q2, .ref q3, .ref q4, .ref q5, .int 0, .int 0, .null])), (q0, .inl (kI, 14, .inl (fun _ => 0))), (q1, .inl (kI, 14, .inl (fun _ => 0))), (q2, .inl (kI, 14, .inl (fun _ => 0))), (q3, .inl (kI, 28, .inl (fun _ => 0))), (q4, .inl (kI, 28, .inl (fun _ => 0))), (q5, .inl (kI, 28, .inl (fun _ => 0)))] 6 126
  refine o_aload hJ d_M_init_52 ?_
  refine o_iconst hJ (v := nI 2) d_M_init_53 (by decide) ?_
  refine o_newi hJ (n := 2) (by decide) d_M_init_54 (by decide) (by decide) (fun q6 => ?_)
  show J 56 [.ref q6, .ref h] [(h, .inr (cI true, [.ref q0, .ref q1, .ref q2, .ref q3, .ref q4, .ref q5, .int 0, .int 0, .null])), (q0, .inl (kI, 14, .inl (fun _ => 0))), (q1, .inl (kI, 14, .inl (fun _ => 0))), (q2, .inl (kI, 14, .inl (fun _ => 0))), (q3, .inl (kI, 28, .inl (fun _ => 0))), (q4, .inl (kI, 28, .inl (fun _ => 0))), (q5, .inl (kI, 28, .inl (fun _ => 0))), (q6, .inl (kI, 2, .inl (fun _ => 0)))] 7 128
  refine o_putN hJ (k := 8) (ty := .array .int) fl_M_8 (by decide) rfl (by decide +kernel) rfl rfl rfl (Nat.le_of_ble_eq_true rfl) d_M_init_56 ?_
  show J 59 [] [(h, .inr (cI true, [.ref q0, .ref q1, .ref q2, .ref q3, .ref q4, .ref q5, .int 0, .int 0, .ref q6])), (q0, .inl (kI, 14, .inl (fun _ => 0))), (q1, .inl (kI, 14, .inl (fun _ => 0))), (q2, .inl (kI, 14, .inl (fun _ => 0))), (q3, .inl (kI, 28, .inl (fun _ => 0))), (q4, .inl (kI, 28, .inl (fun _ => 0))), (q5, .inl (kI, 28, .inl (fun _ => 0))), (q6, .inl (kI, 2, .inl (fun _ => 0)))] 7 128
  refine o_aload hJ d_M_init_59 ?_
  refine o_get hJ (k := 1) fl_M_1 (by decide) rfl rfl d_M_init_60 ?_
  refine o_bipush hJ (v := nI 12) d_M_init_63 (by decide) ?_
  refine o_bipush hJ (v := nI 31) d_M_init_65 (by decide) ?_
  refine o_iast hJ (q0 := 2) (n := 14) (j := 12) rfl (by decide) (by decide) d_M_init_67 ?_
  show J 68 [] [(h, .inr (cI true, [.ref q0, .ref q1, .ref q2, .ref q3, .ref q4, .ref q5, .int 0, .int 0, .ref q6])), (q0, .inl (kI, 14, .inl (fun _ => 0))), (q1, .inl (kI, 14, .inl (upd (fun _ => 0) 12 (nI 31)))), (q2, .inl (kI, 14, .inl (fun _ => 0))), (q3, .inl (kI, 28, .inl (fun _ => 0))), (q4, .inl (kI, 28, .inl (fun _ => 0))), (q5, .inl (kI, 28, .inl (fun _ => 0))), (q6, .inl (kI, 2, .inl (fun _ => 0)))] 7 128
  exact hret 68 (fun k => ([q0, q1, q2, q3, q4, q5, 0, 0, q6] : List Nat).getD k 0) _ d_M_init_68 rfl
end
section
-- the law from its entry
theorem fs_X_ok : ∀ j, j < 31 → defaultValue (t_X j) = vp_V fs0_X j
  | 0, _ => rfl
  | 1, _ => rfl
  | 2, _ => rfl
  | 3, _ => rfl
  | 4, _ => rfl
  | 5, _ => rfl
  | 6, _ => rfl
  | 7, _ => rfl
  | 8, _ => rfl
  | 9, _ => rfl
  | 10, _ => rfl
  | 11, _ => rfl
  | 12, _ => rfl
  | 13, _ => rfl
  | 14, _ => rfl
  | 15, _ => rfl
  | 16, _ => rfl
  | 17, _ => rfl
  | 18, _ => rfl
  | 19, _ => rfl
  | 20, _ => rfl
  | 21, _ => rfl
  | 22, _ => rfl
  | 23, _ => rfl
  | 24, _ => rfl
  | 25, _ => rfl
  | 26, _ => rfl
  | 27, _ => rfl
  | 28, _ => rfl
  | 29, _ => rfl
  | 30, _ => rfl
  | k + 31, h => absurd h (by omega)
theorem fs_M_ok : ∀ j, j < 9 → defaultValue (t_M j) = vp_V fs0_M j
  | 0, _ => rfl
  | 1, _ => rfl
  | 2, _ => rfl
  | 3, _ => rfl
  | 4, _ => rfl
  | 5, _ => rfl
  | 6, _ => rfl
  | 7, _ => rfl
  | 8, _ => rfl
  | k + 9, h => absurd h (by omega)
theorem LI_0 : LI 0 (upd (fun _ => 0) 21 (nI 31), fun _ _ => 0) (fun _ => 0, up2 (fun _ _ => 0) 1 12 (nI 31)) := by
  refine ⟨rfl, rfl, by decide, fun r hr => absurd hr (Nat.not_lt_zero r), fun r hr => absurd hr (Nat.not_lt_zero r), fun j hj => ?_, rfl, fun t ht => ?_, ⟨⟨0, 31, by decide, by decide, rfl, rfl⟩, ⟨0, by decide, by decide, rfl⟩, ⟨0, by decide, by decide, rfl⟩⟩, Or.inl rfl⟩
  · show (0 : Int32) = up2 (fun _ _ => 0) 1 12 (nI 31) 8 j
    rw [up2_k (by decide)]
  · match t, ht with
    | 0, _ => rfl
    | 1, _ => rfl
    | 3, _ => rfl
    | 4, _ => rfl
    | 5, _ => rfl
    | 6, _ => rfl
    | 7, _ => rfl
    | t + 8, _ => rfl
set_option maxHeartbeats 4000000 in
set_option maxRecDepth 100000 in
/-- THE LAW, from its entry -/
theorem whole_start {p : Program} {e : Env} {s : State} {m : MethodId} {below : List Frame} {meth : Method} {c : Code} (l : Launch) {b L : Nat} {xs : Nat → Int32} (hL : L ≤ 2560) (C0 : lw_At p s m meth c b L xs) : W p l e room_1 s m #[Value.ref b] below meth c s.heap [] 0 0 (lw_Z below #[Value.ref b] s) (entryFrame m ([Value.ref b] : List Value).toArray 4) := by
  obtain ⟨hx, hb, hr, hml, hown, hts0, hX, hbl, hlocks, hgv⟩ := id C0
  have hts : ∀ w ∈ tW, w.before #[Value.ref b] s = true := fun w hw => hts0 w (List.mem_filter.mp hw).1
  have hA : ∀ q : Nat, s.heap.size ≤ q → (fun q : Nat => s.heap.size ≤ q) q := fun _ h => h
  obtain ⟨c0, iS0, hKn0⟩ := u_known (C := R_X) (T := F_X) (N := 31) (n := 31) hts i_X (hts _ in_X)
  obtain ⟨c1, iS1, hKn1⟩ := u_known (C := R_M) (T := F_M) (N := 9) (n := 9) hts i_M (hts _ in_M)
  obtain ⟨dC, dI, hKc⟩ : ∃ (dC : Nat → ClassId) (dI : Nat → Nat → Nat), ∀ (k : Nat) (q : vw_C), classes[k]? = some q → u_Kn s q.1 q.2.1 q.2.2 (dC k) (dI k) := by
    refine ⟨fun k => if k = 0 then c0 else c1, fun k => if k = 0 then iS0 else iS1, ?_⟩
    intro k q hq
    match k, hq with
    | 0, hq => cases hq; exact hKn0
    | 1, hq => cases hq; exact hKn1
    | k + 2, hq => simp [classes] at hq
  obtain ⟨kI, kA, comp, f1, f2, f3⟩ := Cond.arrayClass_spec (hts _ ar_int)
  obtain ⟨kZ, kB, comp2, g1, g2, g3⟩ := Cond.arrayClass_spec (hts _ ar_bool)
  have hK : va_K (dC, dI) classes (oT kI kZ) s := ⟨hKc, fun k q h => by
    match k, h with
    | 0, h =>
      cases h
      exact ⟨fun n z => ⟨fun k h => (by cases h), kA, f2, comp, f3⟩, f1⟩
    | 1, h =>
      cases h
      exact ⟨fun n z => ⟨fun k h => (by cases h), kB, g2, comp2, g3⟩, g1⟩
    | k + 2, h => simp [oT] at h⟩
  have hS : va_S (fun q : Nat => s.heap.size ≤ q) s.heap s.heap [] := va_S.rf
  have hP : va_P (dC, dI) classes [] s.heap := fun k q h => by simp at h
  have hD : va_D (fun q : Nat => s.heap.size ≤ q) [] := ⟨fun i j p q h => by simp at h, fun k q h => by simp at h⟩
  have hl := lv_entry ([.ref b]) (n := 4) (Nat.le_of_ble_eq_true rfl)
  rw [lg_entry_eq]
  generalize (lg_sl ([.ref b]) ++ List.replicate (4 - (lg_sl ([.ref b])).length) Slot.unset).toArray = ls at hl ⊢
  have hl : lv_has ls 4 [(0, .ref b)] := hl
  refine va_new (ci := 0) (fs := fs0_X) (C := R_X) (T := F_X) (N := 31) hx hb hts i_X t_X t_X_ok hown (hts _ cl_X) (hts _ in_X) (hts _ iz_X) hK hP hD hS hA rfl fs_X_ok (by decide) (by decide) d_law_law_0 (fun qx H hP hD hS => ?_)
  have hP : va_P (dC, dI) classes [(qx, .inr (cI false, fs0_X))] H := hP
  have hD : va_D (fun q : Nat => s.heap.size ≤ q) [(qx, .inr (cI false, fs0_X))] := hD
  refine lv_dup hx hb d_law_law_3 rfl ?_
  have hF : ∀ q, va_A [(qx, .inr (cI false, fs0_X))] H.size q → s.heap.size ≤ q := fun q h => by
    rcases h with ⟨k, e, hk⟩ | h
    · exact hD.2 k (q, e) hk
    · exact Nat.le_trans hS.1 h
  refine va_callv (va_runI (As := []) (rest := [.ref qx]) ⟨hx, hb, hml, hown, hts⟩ (c_X_init (dC, dI) kI kZ l qx H.size) ⟨callB_of 0 hts (gd_cons kw_X_init) rfl rfl rfl (hts _ iz_X) (hts _ ki_X_init) ⟨by decide +kernel, by decide +kernel, by decide +kernel⟩ ⟨by decide, by decide⟩, rfl, hts _ kj_X_init⟩ ⟨fun a U g mk q => by obtain ⟨q0, q1, qP, qK, qD⟩ := q; exact ⟨q0, q1, qP, va_K.moved (u := U) (U := U.calling g mk a) (Vm.Alike.refl U.vm) qK, qD⟩, fun U hU hW => ⟨rfl, by rw [hU], by rw [hU]; exact hP, va_K.moved hW.alike hK, hD.weaken (fun _ _ _ _ => trivial)⟩⟩ rfl rfl hl.1 rfl (lv_room (Nat.le_of_ble_eq_true rfl)) d_law_law_4 ⟨by decide, by decide⟩) hS (fun q _ h => hF q h) hF (fun ad t H1 locs ht hvm hw hB hz1 hk1 hS => ?_)
  have hP : va_P (dC, dI) classes (gW false (qx, ad, kI, kZ, dC, dI) (upd (fun _ => 0) 21 (nI 31)) (fun _ _ => 0)) H1 := by rw [← ht]; exact hB.1
  have hD := hB.2.2.weaken (fun k q _ h => hF q.1 h)
  generalize H1 = H at hP hS ⊢
  refine W.widen (k := 24) (n := 1445) (by decide) (by decide) ?_
  refine lv_astore_n (lv' := [(1, .ref qx), (0, .ref b)]) hx hb d_law_law_7 rfl hl (by decide) rfl (fun ls hl => ?_)
  refine va_new (ci := 1) (fs := fs0_M) (C := R_M) (T := F_M) (N := 9) hx hb hts i_M t_M t_M_ok hown (hts _ cl_M) (hts _ in_M) (hts _ iz_M) hK hP hD hS hA rfl fs_M_ok (by decide) (by decide) d_law_law_8 (fun qm H hP hD hS => ?_)
  have hP : va_P (dC, dI) classes (gW false (qx, ad, kI, kZ, dC, dI) (upd (fun _ => 0) 21 (nI 31)) (fun _ _ => 0) ++ [(qm, .inr (cI true, fs0_M))]) H := hP
  have hD : va_D (fun q : Nat => s.heap.size ≤ q) (gW false (qx, ad, kI, kZ, dC, dI) (upd (fun _ => 0) 21 (nI 31)) (fun _ _ => 0) ++ [(qm, .inr (cI true, fs0_M))]) := hD
  refine lv_dup hx hb d_law_law_11 rfl ?_
  have hP2 := P_r hP
  have hD2 := D_r hD
  have hF2 : ∀ q, va_A [(qm, .inr (cI true, fs0_M))] H.size q → s.heap.size ≤ q := fun q h => by
    rcases h with ⟨k, e, hk⟩ | h
    · exact hD2.2 k (q, e) hk
    · exact Nat.le_trans hS.1 h
  refine va_callv (va_runI (As := []) (rest := [.ref qm]) ⟨hx, hb, hml, hown, hts⟩ (c_M_init (dC, dI) kI kZ l qm H.size) ⟨callB_of 0 hts (gd_cons kw_M_init) rfl rfl rfl (hts _ iz_M) (hts _ ki_M_init) ⟨by decide +kernel, by decide +kernel, by decide +kernel⟩ ⟨by decide, by decide⟩, rfl, hts _ kj_M_init⟩ ⟨fun a U g mk q => by obtain ⟨q0, q1, qP, qK, qD⟩ := q; exact ⟨q0, q1, qP, va_K.moved (u := U) (U := U.calling g mk a) (Vm.Alike.refl U.vm) qK, qD⟩, fun U hU hW => ⟨rfl, by rw [hU], by rw [hU]; exact hP2, va_K.moved hW.alike hK, hD2.weaken (fun _ _ _ _ => trivial)⟩⟩ rfl rfl hl.1 rfl (lv_room (Nat.le_of_ble_eq_true rfl)) d_law_law_12 ⟨by decide, by decide⟩) hS (fun q _ h => hF2 q h) hF2 (fun ad2 t2 H2 locs2 ht2 hvm2 hw2 hB2 hz2 hk2 hS => ?_)
  have hB1 : va_P (dC, dI) classes (gW true (qm, ad2, kI, kZ, dC, dI) (fun _ => 0) (up2 (fun _ _ => 0) 1 12 (nI 31))) H2 := by rw [← ht2]; exact hB2.1
  obtain ⟨p1, d1⟩ := lj_join (P_sw hP) (D_sw hD) hk2 hF2 hB1 hB2.2.2
  refine W.widen (k := 32) (n := 1582) (by decide) (by decide) ?_
  refine lv_astore_n (lv' := [(2, .ref qm), (1, .ref qx), (0, .ref b)]) hx hb d_law_law_15 rfl hl (by decide) rfl (fun ls hl => ?_)
  refine lv_iconst (v := nI 0) hx hb d_law_law_16 (by decide) ?_
  refine lv_istore_n (lv' := [(3, .int (nI 0)), (2, .ref qm), (1, .ref qx), (0, .ref b)]) hx hb d_law_law_17 rfl hl (by decide) rfl (fun ls hl => ?_)
  exact law_loop (GX := (qx, ad, kI, kZ, dC, dI)) (GM := (qm, ad2, kI, kZ, dC, dI)) (J := lJ (qx, ad, kI, kZ, dC, dI) (qm, ad2, kI, kZ, dC, dI) p l e s m below meth c b) hL ⟨p, e, s, m, below, meth, c, ⟨hx, hb, hr, hml, hown, hts, hX, hbl, hlocks, hK, rfl⟩, rfl⟩ (L + 1) 0 0 _ _ (Nat.zero_le L) (by omega) LI_0 ls H2 locs2 (lv_sub hl [3, 2, 1, 0] rfl) ⟨P_sw p1, D_sw d1, hS⟩
end
section
-- ===== YOUR PART ENDS =====
set_option maxHeartbeats 4000000 in
theorem lw_walk (l : Launch) (b : Addr) (xs : List Int32) : MetFree l x (headSpec (Jvm.Cond.code x code maxLocals ret :: tables_1) room_1) (lw_P b xs) (fun _ _ _ _ _ => True) lw_Q := by
  refine MetFree.of_bodyS (code := code) (maxLocals := maxLocals) (ret := ret) (by decide) ?_ ?_
  · intro args s m h hn
    obtain ⟨meth, c, h1, h2, h3, h4, h5, h6, -, -⟩ := Cond.code_spec hn (atoms_spec (ws := Jvm.Cond.code x code maxLocals ret :: tables_1) h _ List.mem_cons_self)
    exact ⟨meth, c, h1, h2, h3, h4, h5, h6⟩
  · intro p e s m args below meth c s₁ B hml0 hP _
    obtain ⟨rfl, hx, hbd, hgv⟩ := hP
    obtain ⟨scr, harrAt, hlist, hof, hsmall⟩ := hx
    obtain ⟨hcb, hkn, -, -⟩ := State.arrayAt?_spec harrAt
    have hown : s.vm.findClass R_law = some m.cls := findClass_of_methodNamed B.named
    have hts0 : ∀ c ∈ (Jvm.Cond.code x code maxLocals ret :: tables_1), c.before #[Value.ref b] s = true := atoms_spec (ws := Jvm.Cond.code x code maxLocals ret :: tables_1) B.pre
    have hts : ∀ w ∈ lw_tbl, w.before #[Value.ref b] s = true := k2_hts_sels lw_privs (fun w hw => hts0 w (List.mem_cons_of_mem _ hw)) lw_privs_ok
    have hml : c.maxLocals = 4 := B.maxLocals_eq (hts0 _ List.mem_cons_self)
    have X₀ : Stand p l e room_1 s m #[Value.ref b] below meth c s₁ [] 0 0 := Stand.of_body B
    have hh0 : s₁.heap = s.heap := by rw [B.state]; rfl
    have hsz : scr.slots.size = xs.length := by rw [← Array.length_toList, hlist, List.length_map]
    have hval : ∀ j : Nat, j < xs.length → scr.slots[j]? = some (.int (xs.getD j 0)) := fun j hj => by
      rw [← Array.getElem?_toList, hlist]
      simp [hj]
    have hbl : b < s.heap.size := (Array.getElem?_eq_some_iff.mp hcb).1
    have hX : va_X b xs.length (fun j => xs.getD j 0) s s.heap := ⟨scr, hcb, hof, hkn, hsz, hval⟩
    have K : W p l e room_1 s m #[Value.ref b] below meth c s₁.heap [] 0 0 (lw_Z below #[Value.ref b] s) (entryFrame m ([Value.ref b] : List Value).toArray 4) := by
      rw [hh0]
      exact whole_start l hbd ⟨B.exec, B.bytes, B.returns, hml, hown, hts, hX, hbl, B.notSynchronized, hgv⟩
    obtain ⟨t, a1, o, b1, b2, b3⟩ := K s₁ rfl X₀
    exact ⟨t, o, a1, b1, b2, b3⟩
theorem lw_pre_spec {args : Array Value} {s : State} (h : (Jvm.Cond.and given_1 narrow_1).before args s = true) (hr : rest_1_c.before args s = true) : ∃ (b : Addr) (xs : List Int32), lw_P b xs args s := by
  have hs := flat_of_before _ h
  have hq := flat_of_before _ hr
  have hc : (Cond.count 1).before args s = true := hs _ (by decide +kernel)
  have harr : (Cond.arrayOf (.arg 0) .int).before args s = true := hs _ (by decide +kernel)
  have hle : (Cond.le (.length (.arg 0)) (.int 2560)).before args s = true := hs _ (by decide +kernel)
  have hlen : (Cond.isInt (.length (.arg 0))).before args s = true := hq _ (by decide +kernel)
  have hall : (Cond.all (.arg 0) (.isInt (.elem (.arg 0) (.index 0)))).before args s = true := hq _ (by decide +kernel)
  obtain ⟨b, xs, hb, hx⟩ := State.ints_of_pre rfl harr hlen hall
  have hsm : xs.length < 2 ^ 31 := hx.choose_spec.2.2.2
  have hev : (Term.length (.arg 0)).eval args s none [] s = some (.int xs.length.toInt32) := hx.length_eval hb
  have hv := Cond.le_ints hev (show (Term.int 2560).eval args s none [] s = some (.int 2560) from rfl)
  have hd : xs.length.toInt32 ≤ 2560 := by
    simpa [Cond.before, Cond.holds, hv] using hle
  have hN : xs.length ≤ 2560 := (Int32.ofNat_le_ofNat hsm (by decide)).mp (show Int32.ofNat xs.length ≤ Int32.ofNat 2560 from hd)
  exact ⟨b, xs, Cond.one_arg hc (show args[0]? = some (.ref b) from hb), hx, hN, h⟩
theorem lw_comes (l : Launch) : Comes l x (Jvm.Cond.code x code maxLocals ret :: tables_1) room_1 (fun tb e args s => Calls_1 tb e args s ∧ rest_1 tb e args s ∧ Pre_1 tb e args s)
    (fun _ _ args s o t => lw_Q args s o t) := by
  intro p e ha hc hk s m args below hf hfit hheap happ hpre
  obtain ⟨b, xs, hP⟩ := lw_pre_spec hpre.2.2 hpre.2.1
  obtain ⟨k, o, h1, h2, h3, hQ⟩ := lw_walk l b xs p e ha hc hk s m args below hf ((Spec.applies_iff_loose hf).mp happ).1 hP trivial
  exact ⟨k, o, h1, h2, h3, hQ⟩
theorem lw_frame {s t : State} {o : Outcome} {args : Array Value} (h : Framed s o t [] 32 1582) :
    Framed s o t (fieldLocs frame_1_writes args s ++ arrayLocs frame_1_arrays args s ++ staticLocs frame_1_statics s) 32 1582 := h
theorem lw_limb (L : Cond) (hL : ∀ (args : Array Value) (s t : State), L.after args s (.returned (some (.int 1))) t = true) :
    ArmFor flags0 classFile x code maxLocals ret World_1 tables_1 room_1 Calls_1 rest_1 Pre_1
      (fun tb e a s o t => postC L tb e a s o t ∧ Framed s o t (fieldLocs frame_1_writes a s ++ arrayLocs frame_1_arrays a s ++ staticLocs frame_1_statics s) 32 1582) := by
  intro l _ _ _ p e ha hc hk s m args below hf hfit hheap happ hpre
  obtain ⟨k, o, h1, h2, h3, rfl, hF⟩ := lw_comes l p e ha hc hk s m args below hf hfit hheap happ hpre
  exact ⟨k, _, h1, h2, h3, hL args s _, lw_frame hF⟩
theorem i_vc : Claimed_1_1 ∧ Claimed_1_2 := ⟨lw_limb limb_1_1 (fun args s t => by simp [limb_1_1, Cond.after, Cond.holds, Cond.value]), lw_limb limb_1_2 (fun args s t => Cond.after_iff.mpr (by
  first | (rw [show limb_1_2 = Cond.eq .result (.int 1) from rfl, Cond.eq_ints (x := 1) (y := 1) rfl rfl]; simp; done) | (simp [limb_1_2, Cond.value, Term.eval]; done)))⟩
end
