section
-- ===== PART A: goes FIRST, ahead of the names: the tables' words, and 'selects' of the private methods out of them =====
/-- a private method of a class that the tables say can be made, by its rows of tables_1 -/
def lw_okq (q : MethodName × Nat) : Prop := (q.1.cls ≠ "java/lang/invoke/MethodHandle" ∧ q.1.cls ≠ "java/lang/invoke/VarHandle") ∧ Cond.instantiable q.1.cls q.2 ∈ tables_1 ∧ Cond.privateMethod q.1 ∈ tables_1 ∧ Cond.instanceMethod q.1 ∈ tables_1
theorem lw_p0 : lw_okq (⟨"StepMap", "begin", "()V"⟩, 6) := ⟨⟨by decide +kernel, by decide +kernel⟩, List.mem_of_getElem? (i := 6) (by decide +kernel), List.mem_of_getElem? (i := 72) (by decide +kernel), List.mem_of_getElem? (i := 73) (by decide +kernel)⟩
theorem lw_p1 : lw_okq (⟨"StepMap$Table", "next", "(I)I"⟩, 5) := ⟨⟨by decide +kernel, by decide +kernel⟩, List.mem_of_getElem? (i := 17) (by decide +kernel), List.mem_of_getElem? (i := 88) (by decide +kernel), List.mem_of_getElem? (i := 89) (by decide +kernel)⟩
theorem lw_p2 : lw_okq (⟨"StepMap", "findOld", "(I)I"⟩, 6) := ⟨⟨by decide +kernel, by decide +kernel⟩, List.mem_of_getElem? (i := 6) (by decide +kernel), List.mem_of_getElem? (i := 96) (by decide +kernel), List.mem_of_getElem? (i := 97) (by decide +kernel)⟩
theorem lw_p3 : lw_okq (⟨"StepMap", "isMigrating", "()Z"⟩, 6) := ⟨⟨by decide +kernel, by decide +kernel⟩, List.mem_of_getElem? (i := 6) (by decide +kernel), List.mem_of_getElem? (i := 100) (by decide +kernel), List.mem_of_getElem? (i := 101) (by decide +kernel)⟩
theorem lw_p4 : lw_okq (⟨"StepMap", "isFull", "()Z"⟩, 6) := ⟨⟨by decide +kernel, by decide +kernel⟩, List.mem_of_getElem? (i := 6) (by decide +kernel), List.mem_of_getElem? (i := 104) (by decide +kernel), List.mem_of_getElem? (i := 105) (by decide +kernel)⟩
theorem lw_p5 : lw_okq (⟨"StepMap", "isCrowded", "(I)Z"⟩, 6) := ⟨⟨by decide +kernel, by decide +kernel⟩, List.mem_of_getElem? (i := 6) (by decide +kernel), List.mem_of_getElem? (i := 108) (by decide +kernel), List.mem_of_getElem? (i := 109) (by decide +kernel)⟩
theorem lw_p6 : lw_okq (⟨"StepMap", "settle", "()V"⟩, 6) := ⟨⟨by decide +kernel, by decide +kernel⟩, List.mem_of_getElem? (i := 6) (by decide +kernel), List.mem_of_getElem? (i := 117) (by decide +kernel), List.mem_of_getElem? (i := 118) (by decide +kernel)⟩
theorem lw_p7 : lw_okq (⟨"StepMap", "moveOn", "()V"⟩, 6) := ⟨⟨by decide +kernel, by decide +kernel⟩, List.mem_of_getElem? (i := 6) (by decide +kernel), List.mem_of_getElem? (i := 121) (by decide +kernel), List.mem_of_getElem? (i := 122) (by decide +kernel)⟩
theorem lw_p8 : lw_okq (⟨"StepMap", "change", "(I)V"⟩, 6) := ⟨⟨by decide +kernel, by decide +kernel⟩, List.mem_of_getElem? (i := 6) (by decide +kernel), List.mem_of_getElem? (i := 125) (by decide +kernel), List.mem_of_getElem? (i := 126) (by decide +kernel)⟩
theorem lw_p9 : lw_okq (⟨"StepMap", "end", "()V"⟩, 6) := ⟨⟨by decide +kernel, by decide +kernel⟩, List.mem_of_getElem? (i := 6) (by decide +kernel), List.mem_of_getElem? (i := 129) (by decide +kernel), List.mem_of_getElem? (i := 130) (by decide +kernel)⟩
theorem lw_p10 : lw_okq (⟨"StepMapModel", "look", "(II)I"⟩, 12) := ⟨⟨by decide +kernel, by decide +kernel⟩, List.mem_of_getElem? (i := 177) (by decide +kernel), List.mem_of_getElem? (i := 224) (by decide +kernel), List.mem_of_getElem? (i := 225) (by decide +kernel)⟩
theorem lw_p11 : lw_okq (⟨"StepMapModel", "home", "(II)I"⟩, 12) := ⟨⟨by decide +kernel, by decide +kernel⟩, List.mem_of_getElem? (i := 177) (by decide +kernel), List.mem_of_getElem? (i := 228) (by decide +kernel), List.mem_of_getElem? (i := 229) (by decide +kernel)⟩
theorem lw_p12 : lw_okq (⟨"StepMapModel", "at", "(II)I"⟩, 12) := ⟨⟨by decide +kernel, by decide +kernel⟩, List.mem_of_getElem? (i := 177) (by decide +kernel), List.mem_of_getElem? (i := 233) (by decide +kernel), List.mem_of_getElem? (i := 234) (by decide +kernel)⟩
theorem lw_p13 : lw_okq (⟨"StepMapModel", "behind", "(II)I"⟩, 12) := ⟨⟨by decide +kernel, by decide +kernel⟩, List.mem_of_getElem? (i := 177) (by decide +kernel), List.mem_of_getElem? (i := 237) (by decide +kernel), List.mem_of_getElem? (i := 238) (by decide +kernel)⟩
theorem lw_p14 : lw_okq (⟨"StepMapModel", "isFull", "()Z"⟩, 12) := ⟨⟨by decide +kernel, by decide +kernel⟩, List.mem_of_getElem? (i := 177) (by decide +kernel), List.mem_of_getElem? (i := 241) (by decide +kernel), List.mem_of_getElem? (i := 242) (by decide +kernel)⟩
theorem lw_p15 : lw_okq (⟨"StepMapModel", "lay", "(IIII)V"⟩, 12) := ⟨⟨by decide +kernel, by decide +kernel⟩, List.mem_of_getElem? (i := 177) (by decide +kernel), List.mem_of_getElem? (i := 246) (by decide +kernel), List.mem_of_getElem? (i := 247) (by decide +kernel)⟩
def lw_privs_1 : List (MethodName × Nat) := [(⟨"StepMap", "begin", "()V"⟩, 6), (⟨"StepMap$Table", "next", "(I)I"⟩, 5), (⟨"StepMap", "findOld", "(I)I"⟩, 6), (⟨"StepMap", "isMigrating", "()Z"⟩, 6), (⟨"StepMap", "isFull", "()Z"⟩, 6), (⟨"StepMap", "isCrowded", "(I)Z"⟩, 6), (⟨"StepMap", "settle", "()V"⟩, 6), (⟨"StepMap", "moveOn", "()V"⟩, 6), (⟨"StepMap", "change", "(I)V"⟩, 6), (⟨"StepMap", "end", "()V"⟩, 6), (⟨"StepMapModel", "look", "(II)I"⟩, 12), (⟨"StepMapModel", "home", "(II)I"⟩, 12), (⟨"StepMapModel", "at", "(II)I"⟩, 12), (⟨"StepMapModel", "behind", "(II)I"⟩, 12), (⟨"StepMapModel", "isFull", "()Z"⟩, 12), (⟨"StepMapModel", "lay", "(IIII)V"⟩, 12)]
theorem lw_r1 : ∀ q ∈ lw_privs_1, lw_okq q := List.forall_mem_cons.mpr ⟨lw_p0, List.forall_mem_cons.mpr ⟨lw_p1, List.forall_mem_cons.mpr ⟨lw_p2, List.forall_mem_cons.mpr ⟨lw_p3, List.forall_mem_cons.mpr ⟨lw_p4, List.forall_mem_cons.mpr ⟨lw_p5, List.forall_mem_cons.mpr ⟨lw_p6, List.forall_mem_cons.mpr ⟨lw_p7, List.forall_mem_cons.mpr ⟨lw_p8, List.forall_mem_cons.mpr ⟨lw_p9, List.forall_mem_cons.mpr ⟨lw_p10, List.forall_mem_cons.mpr ⟨lw_p11, List.forall_mem_cons.mpr ⟨lw_p12, List.forall_mem_cons.mpr ⟨lw_p13, List.forall_mem_cons.mpr ⟨lw_p14, List.forall_mem_cons.mpr ⟨lw_p15, fun _ h => absurd h List.not_mem_nil⟩⟩⟩⟩⟩⟩⟩⟩⟩⟩⟩⟩⟩⟩⟩⟩
theorem lw_p16 : lw_okq (⟨"StepMapModel", "settle", "()V"⟩, 12) := ⟨⟨by decide +kernel, by decide +kernel⟩, List.mem_of_getElem? (i := 177) (by decide +kernel), List.mem_of_getElem? (i := 250) (by decide +kernel), List.mem_of_getElem? (i := 251) (by decide +kernel)⟩
theorem lw_p17 : lw_okq (⟨"StepMapModel", "moveSome", "()V"⟩, 12) := ⟨⟨by decide +kernel, by decide +kernel⟩, List.mem_of_getElem? (i := 177) (by decide +kernel), List.mem_of_getElem? (i := 254) (by decide +kernel), List.mem_of_getElem? (i := 255) (by decide +kernel)⟩
theorem lw_p18 : lw_okq (⟨"StepMapModel", "become", "(I)V"⟩, 12) := ⟨⟨by decide +kernel, by decide +kernel⟩, List.mem_of_getElem? (i := 177) (by decide +kernel), List.mem_of_getElem? (i := 258) (by decide +kernel), List.mem_of_getElem? (i := 259) (by decide +kernel)⟩
theorem lw_p19 : lw_okq (⟨"StepMapModel", "find", "(I)I"⟩, 12) := ⟨⟨by decide +kernel, by decide +kernel⟩, List.mem_of_getElem? (i := 177) (by decide +kernel), List.mem_of_getElem? (i := 266) (by decide +kernel), List.mem_of_getElem? (i := 267) (by decide +kernel)⟩
theorem lw_p20 : lw_okq (⟨"StepMapModel", "free", "(I)V"⟩, 12) := ⟨⟨by decide +kernel, by decide +kernel⟩, List.mem_of_getElem? (i := 177) (by decide +kernel), List.mem_of_getElem? (i := 278) (by decide +kernel), List.mem_of_getElem? (i := 279) (by decide +kernel)⟩
theorem lw_p21 : lw_okq (⟨"StepMapModel", "steps", "(II)I"⟩, 12) := ⟨⟨by decide +kernel, by decide +kernel⟩, List.mem_of_getElem? (i := 177) (by decide +kernel), List.mem_of_getElem? (i := 282) (by decide +kernel), List.mem_of_getElem? (i := 283) (by decide +kernel)⟩
def lw_privs_2 : List (MethodName × Nat) := [(⟨"StepMapModel", "settle", "()V"⟩, 12), (⟨"StepMapModel", "moveSome", "()V"⟩, 12), (⟨"StepMapModel", "become", "(I)V"⟩, 12), (⟨"StepMapModel", "find", "(I)I"⟩, 12), (⟨"StepMapModel", "free", "(I)V"⟩, 12), (⟨"StepMapModel", "steps", "(II)I"⟩, 12)]
theorem lw_r2 : ∀ q ∈ lw_privs_2, lw_okq q := List.forall_mem_cons.mpr ⟨lw_p16, List.forall_mem_cons.mpr ⟨lw_p17, List.forall_mem_cons.mpr ⟨lw_p18, List.forall_mem_cons.mpr ⟨lw_p19, List.forall_mem_cons.mpr ⟨lw_p20, List.forall_mem_cons.mpr ⟨lw_p21, fun _ h => absurd h List.not_mem_nil⟩⟩⟩⟩⟩⟩
def lw_privs : List (MethodName × Nat) := lw_privs_1 ++ (lw_privs_2)
def lw_tbl : List Cond := k2_sels lw_privs ++ tables_1
theorem lw_privs_ok : ∀ q ∈ lw_privs, lw_okq q := by
  show ∀ q ∈ lw_privs_1 ++ (lw_privs_2), lw_okq q
  exact List.forall_mem_append.mpr ⟨lw_r1, lw_r2⟩
-- ===== names =====
def F_M : u_T := fun k => match k with
  | 0 => ("StepMap", "half", "I", true)
  | 1 => ("StepMap", "fresh", "LStepMap$Table;", false)
  | 2 => ("StepMap", "old", "LStepMap$Table;", false)
  | 3 => ("StepMap", "cursor", "I", false)
  | 4 => ("StepMap", "count", "I", false)
  | _ => ("StepMap", "work", "I", false)
def tt_M : Nat → FieldType := fun k => match k with
  | 0 => .int
  | 1 => .object "StepMap$Table"
  | 2 => .object "StepMap$Table"
  | 3 => .int
  | 4 => .int
  | _ => .int
theorem n_M : ∀ a, a < 6 → ∀ b, b < 6 → a ≠ b → (F_M a).2.1 ≠ (F_M b).2.1 := by decide +kernel
theorem tt_M_ok : ∀ k, k < 6 → parseFieldDescriptor (F_M k).2.2.1 = some (tt_M k) := by decide +kernel
def F_T : u_T := fun k => match k with
  | 0 => ("StepMap$Table", "keys", "[I", true)
  | 1 => ("StepMap$Table", "values", "[I", true)
  | 2 => ("StepMap$Table", "states", "[I", true)
  | 3 => ("StepMap$Table", "capacity", "I", false)
  | _ => ("StepMap$Table", "visited", "I", false)
def tt_T : Nat → FieldType := fun k => match k with
  | 0 => .array .int
  | 1 => .array .int
  | 2 => .array .int
  | 3 => .int
  | _ => .int
theorem n_T : ∀ a, a < 5 → ∀ b, b < 5 → a ≠ b → (F_T a).2.1 ≠ (F_T b).2.1 := by decide +kernel
theorem tt_T_ok : ∀ k, k < 5 → parseFieldDescriptor (F_T k).2.2.1 = some (tt_T k) := by decide +kernel
def F_N : u_T := fun k => match k with
  | 0 => ("StepMapModel", "thrown", "I", false)
  | 1 => ("StepMapModel", "half", "I", true)
  | 2 => ("StepMapModel", "states", "[I", true)
  | 3 => ("StepMapModel", "keys", "[I", true)
  | 4 => ("StepMapModel", "values", "[I", true)
  | 5 => ("StepMapModel", "sizes", "[I", true)
  | 6 => ("StepMapModel", "current", "I", false)
  | 7 => ("StepMapModel", "moving", "Z", false)
  | 8 => ("StepMapModel", "cursor", "I", false)
  | 9 => ("StepMapModel", "count", "I", false)
  | 10 => ("StepMapModel", "visits", "I", false)
  | _ => ("StepMapModel", "work", "I", false)
def tt_N : Nat → FieldType := fun k => match k with
  | 0 => .int
  | 1 => .int
  | 2 => .array .int
  | 3 => .array .int
  | 4 => .array .int
  | 5 => .array .int
  | 6 => .int
  | 7 => .boolean
  | 8 => .int
  | 9 => .int
  | 10 => .int
  | _ => .int
theorem n_N : ∀ a, a < 12 → ∀ b, b < 12 → a ≠ b → (F_N a).2.1 ≠ (F_N b).2.1 := by decide +kernel
theorem tt_N_ok : ∀ k, k < 12 → parseFieldDescriptor (F_N k).2.2.1 = some (tt_N k) := by decide +kernel
abbrev classes : List vw_C := [("StepMap", F_M, 6), ("StepMap$Table", F_T, 5), ("StepMapModel", F_N, 12)]
/-- the tables' words that hold on under every call -/
def wgood : List Cond := lw_tbl.filter goodWord
theorem mw_of {w : Cond} (h : w ∈ lw_tbl) (g : goodWord w = true) : w ∈ wgood := List.mem_filter.mpr ⟨h, g⟩
theorem mw_l {w : Cond} (h : w ∈ tables_1_1) (g : goodWord w = true) : w ∈ wgood := mw_of (List.mem_append_right _ (List.mem_append_left _ h)) g
theorem mw_r {w : Cond} (h : w ∈ tables_1_2) (g : goodWord w = true) : w ∈ wgood := mw_of (List.mem_append_right _ (List.mem_append_right _ h)) g
theorem mw_1_0 : Cond.initialized "StepMapLaw" ∈ wgood := mw_l (List.mem_of_getElem? (l := tables_1_1) (i := 0) (by decide +kernel)) rfl
theorem mw_1_1 : Cond.initialized "StepMap" ∈ wgood := mw_l (List.mem_of_getElem? (l := tables_1_1) (i := 1) (by decide +kernel)) rfl
theorem mw_1_2 : Cond.initialized "java/lang/Math" ∈ wgood := mw_l (List.mem_of_getElem? (l := tables_1_1) (i := 2) (by decide +kernel)) rfl
theorem mw_1_3 : Cond.initialized "StepMap$Table" ∈ wgood := mw_l (List.mem_of_getElem? (l := tables_1_1) (i := 3) (by decide +kernel)) rfl
theorem mw_1_4 : Cond.initialized "StepMapModel" ∈ wgood := mw_l (List.mem_of_getElem? (l := tables_1_1) (i := 4) (by decide +kernel)) rfl
theorem mw_1_5 : Cond.classLink "StepMapLaw" 7 "StepMap" ∈ wgood := mw_l (List.mem_of_getElem? (l := tables_1_1) (i := 5) (by decide +kernel)) rfl
theorem mw_1_6 : Cond.instantiable "StepMap" 6 ∈ wgood := mw_l (List.mem_of_getElem? (l := tables_1_1) (i := 6) (by decide +kernel)) rfl
theorem mw_1_7 : Cond.methodLink "StepMapLaw" 15 ⟨"StepMap", "<init>", "(I)V"⟩ ∈ wgood := mw_l (List.mem_of_getElem? (l := tables_1_1) (i := 7) (by decide +kernel)) rfl
theorem mw_1_8 : Cond.instanceMethod ⟨"StepMap", "<init>", "(I)V"⟩ ∈ wgood := mw_l (List.mem_of_getElem? (l := tables_1_1) (i := 8) (by decide +kernel)) rfl
theorem mw_1_9 : Cond.code ⟨"StepMap", "<init>", "(I)V"⟩ prog_1_method_2_code 3 none ∈ wgood := mw_l (List.mem_of_getElem? (l := tables_1_1) (i := 9) (by decide +kernel)) rfl
theorem mw_1_10 : Cond.methodLink "StepMap" 2 ⟨"java/lang/Object", "<init>", "()V"⟩ ∈ wgood := mw_l (List.mem_of_getElem? (l := tables_1_1) (i := 10) (by decide +kernel)) rfl
theorem mw_1_11 : Cond.instanceMethod ⟨"java/lang/Object", "<init>", "()V"⟩ ∈ wgood := mw_l (List.mem_of_getElem? (l := tables_1_1) (i := 11) (by decide +kernel)) rfl
theorem mw_1_12 : Cond.code ⟨"java/lang/Object", "<init>", "()V"⟩ object_method_1_code 1 none ∈ wgood := mw_l (List.mem_of_getElem? (l := tables_1_1) (i := 12) (by decide +kernel)) rfl
theorem mw_1_13 : Cond.methodLink "StepMap" 10 ⟨"java/lang/Math", "min", "(II)I"⟩ ∈ wgood := mw_l (List.mem_of_getElem? (l := tables_1_1) (i := 13) (by decide +kernel)) rfl
theorem mw_1_14 : Cond.static ⟨"java/lang/Math", "min", "(II)I"⟩ ∈ wgood := mw_l (List.mem_of_getElem? (l := tables_1_1) (i := 14) (by decide +kernel)) rfl
theorem mw_1_15 : Cond.code ⟨"java/lang/Math", "min", "(II)I"⟩ prog_5_method_69_code 2 (some .int) ∈ wgood := mw_l (List.mem_of_getElem? (l := tables_1_1) (i := 15) (by decide +kernel)) rfl
theorem mw_1_16 : Cond.classLink "StepMap" 20 "StepMap$Table" ∈ wgood := mw_l (List.mem_of_getElem? (l := tables_1_1) (i := 16) (by decide +kernel)) rfl
theorem mw_1_17 : Cond.instantiable "StepMap$Table" 5 ∈ wgood := mw_l (List.mem_of_getElem? (l := tables_1_1) (i := 17) (by decide +kernel)) rfl
theorem mw_1_18 : Cond.methodLink "StepMap" 22 ⟨"StepMap$Table", "<init>", "(I)V"⟩ ∈ wgood := mw_l (List.mem_of_getElem? (l := tables_1_1) (i := 18) (by decide +kernel)) rfl
theorem mw_1_19 : Cond.instanceMethod ⟨"StepMap$Table", "<init>", "(I)V"⟩ ∈ wgood := mw_l (List.mem_of_getElem? (l := tables_1_1) (i := 19) (by decide +kernel)) rfl
theorem mw_1_20 : Cond.code ⟨"StepMap$Table", "<init>", "(I)V"⟩ prog_2_method_1_code 2 none ∈ wgood := mw_l (List.mem_of_getElem? (l := tables_1_1) (i := 20) (by decide +kernel)) rfl
theorem mw_1_21 : Cond.methodLink "StepMap$Table" 3 ⟨"java/lang/Object", "<init>", "()V"⟩ ∈ wgood := mw_l (List.mem_of_getElem? (l := tables_1_1) (i := 21) (by decide +kernel)) rfl
theorem mw_1_22 : Cond.fieldLink "StepMap$Table" 9 "StepMap$Table" "keys" "[I" ∈ wgood := mw_l (List.mem_of_getElem? (l := tables_1_1) (i := 22) (by decide +kernel)) rfl
theorem mw_1_24 : Cond.fieldLink "StepMap$Table" 15 "StepMap$Table" "values" "[I" ∈ wgood := mw_l (List.mem_of_getElem? (l := tables_1_1) (i := 24) (by decide +kernel)) rfl
theorem mw_1_26 : Cond.fieldLink "StepMap$Table" 18 "StepMap$Table" "states" "[I" ∈ wgood := mw_l (List.mem_of_getElem? (l := tables_1_1) (i := 26) (by decide +kernel)) rfl
theorem mw_1_28 : Cond.fieldLink "StepMap$Table" 21 "StepMap$Table" "capacity" "I" ∈ wgood := mw_l (List.mem_of_getElem? (l := tables_1_1) (i := 28) (by decide +kernel)) rfl
theorem mw_1_31 : Cond.fieldLink "StepMap$Table" 32 "StepMap$Table" "visited" "I" ∈ wgood := mw_l (List.mem_of_getElem? (l := tables_1_1) (i := 31) (by decide +kernel)) rfl
theorem mw_1_32 : Cond.laysFinal "StepMap$Table" "StepMap$Table" "keys" "[I" ∈ wgood := mw_l (List.mem_of_getElem? (l := tables_1_1) (i := 32) (by decide +kernel)) rfl
theorem mw_1_34 : Cond.laysFinal "StepMap$Table" "StepMap$Table" "values" "[I" ∈ wgood := mw_l (List.mem_of_getElem? (l := tables_1_1) (i := 34) (by decide +kernel)) rfl
theorem mw_1_36 : Cond.laysFinal "StepMap$Table" "StepMap$Table" "states" "[I" ∈ wgood := mw_l (List.mem_of_getElem? (l := tables_1_1) (i := 36) (by decide +kernel)) rfl
theorem mw_1_38 : Cond.lays "StepMap$Table" "StepMap$Table" "capacity" "I" ∈ wgood := mw_l (List.mem_of_getElem? (l := tables_1_1) (i := 38) (by decide +kernel)) rfl
theorem mw_1_40 : Cond.lays "StepMap$Table" "StepMap$Table" "visited" "I" ∈ wgood := mw_l (List.mem_of_getElem? (l := tables_1_1) (i := 40) (by decide +kernel)) rfl
theorem mw_1_43 : Cond.arrayClass .int ∈ wgood := mw_l (List.mem_of_getElem? (l := tables_1_1) (i := 43) (by decide +kernel)) rfl
theorem mw_1_44 : Cond.methodLink "StepMap" 32 ⟨"StepMap$Table", "clear", "(I)V"⟩ ∈ wgood := mw_l (List.mem_of_getElem? (l := tables_1_1) (i := 44) (by decide +kernel)) rfl
theorem mw_1_45 : Cond.instanceMethod ⟨"StepMap$Table", "clear", "(I)V"⟩ ∈ wgood := mw_l (List.mem_of_getElem? (l := tables_1_1) (i := 45) (by decide +kernel)) rfl
theorem mw_1_46 : Cond.selects "StepMap$Table" ⟨"StepMap$Table", "clear", "(I)V"⟩ ⟨"StepMap$Table", "clear", "(I)V"⟩ ∈ wgood := mw_l (List.mem_of_getElem? (l := tables_1_1) (i := 46) (by decide +kernel)) rfl
theorem mw_1_47 : Cond.code ⟨"StepMap$Table", "clear", "(I)V"⟩ prog_2_method_2_code 3 none ∈ wgood := mw_l (List.mem_of_getElem? (l := tables_1_1) (i := 47) (by decide +kernel)) rfl
theorem mw_1_48 : Cond.fieldLink "StepMap" 16 "StepMap" "half" "I" ∈ wgood := mw_l (List.mem_of_getElem? (l := tables_1_1) (i := 48) (by decide +kernel)) rfl
theorem mw_1_49 : Cond.fieldLink "StepMap" 25 "StepMap" "fresh" "LStepMap$Table;" ∈ wgood := mw_l (List.mem_of_getElem? (l := tables_1_1) (i := 49) (by decide +kernel)) rfl
theorem mw_1_50 : Cond.fieldLink "StepMap" 29 "StepMap" "old" "LStepMap$Table;" ∈ wgood := mw_l (List.mem_of_getElem? (l := tables_1_1) (i := 50) (by decide +kernel)) rfl
theorem mw_1_51 : Cond.fieldLink "StepMap" 35 "StepMap" "cursor" "I" ∈ wgood := mw_l (List.mem_of_getElem? (l := tables_1_1) (i := 51) (by decide +kernel)) rfl
theorem mw_1_52 : Cond.fieldLink "StepMap" 76 "StepMap" "count" "I" ∈ wgood := mw_l (List.mem_of_getElem? (l := tables_1_1) (i := 52) (by decide +kernel)) rfl
theorem mw_1_53 : Cond.fieldLink "StepMap" 44 "StepMap" "work" "I" ∈ wgood := mw_l (List.mem_of_getElem? (l := tables_1_1) (i := 53) (by decide +kernel)) rfl
theorem mw_1_54 : Cond.laysFinal "StepMap" "StepMap" "half" "I" ∈ wgood := mw_l (List.mem_of_getElem? (l := tables_1_1) (i := 54) (by decide +kernel)) rfl
theorem mw_1_56 : Cond.lays "StepMap" "StepMap" "fresh" "LStepMap$Table;" ∈ wgood := mw_l (List.mem_of_getElem? (l := tables_1_1) (i := 56) (by decide +kernel)) rfl
theorem mw_1_58 : Cond.lays "StepMap" "StepMap" "old" "LStepMap$Table;" ∈ wgood := mw_l (List.mem_of_getElem? (l := tables_1_1) (i := 58) (by decide +kernel)) rfl
theorem mw_1_60 : Cond.lays "StepMap" "StepMap" "cursor" "I" ∈ wgood := mw_l (List.mem_of_getElem? (l := tables_1_1) (i := 60) (by decide +kernel)) rfl
theorem mw_1_62 : Cond.lays "StepMap" "StepMap" "count" "I" ∈ wgood := mw_l (List.mem_of_getElem? (l := tables_1_1) (i := 62) (by decide +kernel)) rfl
theorem mw_1_64 : Cond.lays "StepMap" "StepMap" "work" "I" ∈ wgood := mw_l (List.mem_of_getElem? (l := tables_1_1) (i := 64) (by decide +kernel)) rfl
theorem mw_1_67 : Cond.methodLink "StepMapLaw" 21 ⟨"StepMap", "put", "(II)I"⟩ ∈ wgood := mw_l (List.mem_of_getElem? (l := tables_1_1) (i := 67) (by decide +kernel)) rfl
theorem mw_1_68 : Cond.instanceMethod ⟨"StepMap", "put", "(II)I"⟩ ∈ wgood := mw_l (List.mem_of_getElem? (l := tables_1_1) (i := 68) (by decide +kernel)) rfl
theorem mw_1_69 : Cond.selects "StepMap" ⟨"StepMap", "put", "(II)I"⟩ ⟨"StepMap", "put", "(II)I"⟩ ∈ wgood := mw_l (List.mem_of_getElem? (l := tables_1_1) (i := 69) (by decide +kernel)) rfl
theorem mw_1_70 : Cond.code ⟨"StepMap", "put", "(II)I"⟩ prog_1_method_12_code 6 (some .int) ∈ wgood := mw_l (List.mem_of_getElem? (l := tables_1_1) (i := 70) (by decide +kernel)) rfl
theorem mw_1_71 : Cond.methodLink "StepMap" 85 ⟨"StepMap", "begin", "()V"⟩ ∈ wgood := mw_l (List.mem_of_getElem? (l := tables_1_1) (i := 71) (by decide +kernel)) rfl
theorem mw_1_73 : Cond.instanceMethod ⟨"StepMap", "begin", "()V"⟩ ∈ wgood := mw_l (List.mem_of_getElem? (l := tables_1_1) (i := 73) (by decide +kernel)) rfl
theorem mw_1_74 : Cond.code ⟨"StepMap", "begin", "()V"⟩ prog_1_method_4_code 1 none ∈ wgood := mw_l (List.mem_of_getElem? (l := tables_1_1) (i := 74) (by decide +kernel)) rfl
theorem mw_1_75 : Cond.methodLink "StepMap" 51 ⟨"StepMap$Table", "find", "(I)I"⟩ ∈ wgood := mw_l (List.mem_of_getElem? (l := tables_1_1) (i := 75) (by decide +kernel)) rfl
theorem mw_1_76 : Cond.instanceMethod ⟨"StepMap$Table", "find", "(I)I"⟩ ∈ wgood := mw_l (List.mem_of_getElem? (l := tables_1_1) (i := 76) (by decide +kernel)) rfl
theorem mw_1_77 : Cond.selects "StepMap$Table" ⟨"StepMap$Table", "find", "(I)I"⟩ ⟨"StepMap$Table", "find", "(I)I"⟩ ∈ wgood := mw_l (List.mem_of_getElem? (l := tables_1_1) (i := 77) (by decide +kernel)) rfl
theorem mw_1_78 : Cond.code ⟨"StepMap$Table", "find", "(I)I"⟩ prog_2_method_5_code 3 (some .int) ∈ wgood := mw_l (List.mem_of_getElem? (l := tables_1_1) (i := 78) (by decide +kernel)) rfl
theorem mw_1_79 : Cond.methodLink "StepMap$Table" 29 ⟨"StepMap$Table", "home", "(I)I"⟩ ∈ wgood := mw_l (List.mem_of_getElem? (l := tables_1_1) (i := 79) (by decide +kernel)) rfl
theorem mw_1_80 : Cond.instanceMethod ⟨"StepMap$Table", "home", "(I)I"⟩ ∈ wgood := mw_l (List.mem_of_getElem? (l := tables_1_1) (i := 80) (by decide +kernel)) rfl
theorem mw_1_81 : Cond.selects "StepMap$Table" ⟨"StepMap$Table", "home", "(I)I"⟩ ⟨"StepMap$Table", "home", "(I)I"⟩ ∈ wgood := mw_l (List.mem_of_getElem? (l := tables_1_1) (i := 81) (by decide +kernel)) rfl
theorem mw_1_82 : Cond.code ⟨"StepMap$Table", "home", "(I)I"⟩ prog_2_method_3_code 2 (some .int) ∈ wgood := mw_l (List.mem_of_getElem? (l := tables_1_1) (i := 82) (by decide +kernel)) rfl
theorem mw_1_84 : Cond.static ⟨"StepMap", "mix", "(I)I"⟩ ∈ wgood := mw_l (List.mem_of_getElem? (l := tables_1_1) (i := 84) (by decide +kernel)) rfl
theorem mw_1_85 : Cond.code ⟨"StepMap", "mix", "(I)I"⟩ prog_1_method_1_code 2 (some .int) ∈ wgood := mw_l (List.mem_of_getElem? (l := tables_1_1) (i := 85) (by decide +kernel)) rfl
theorem mw_1_86 : Cond.constant "StepMap" 1 (-1640531535 : Int32) ∈ wgood := mw_l (List.mem_of_getElem? (l := tables_1_1) (i := 86) (by decide +kernel)) rfl
theorem mw_1_87 : Cond.methodLink "StepMap$Table" 35 ⟨"StepMap$Table", "next", "(I)I"⟩ ∈ wgood := mw_l (List.mem_of_getElem? (l := tables_1_1) (i := 87) (by decide +kernel)) rfl
theorem mw_1_89 : Cond.instanceMethod ⟨"StepMap$Table", "next", "(I)I"⟩ ∈ wgood := mw_l (List.mem_of_getElem? (l := tables_1_1) (i := 89) (by decide +kernel)) rfl
theorem mw_1_90 : Cond.code ⟨"StepMap$Table", "next", "(I)I"⟩ prog_2_method_4_code 2 (some .int) ∈ wgood := mw_l (List.mem_of_getElem? (l := tables_1_1) (i := 90) (by decide +kernel)) rfl
theorem mw_1_91 : Cond.methodLink "StepMap" 55 ⟨"StepMap$Table", "holds", "(I)Z"⟩ ∈ wgood := mw_l (List.mem_of_getElem? (l := tables_1_1) (i := 91) (by decide +kernel)) rfl
theorem mw_1_92 : Cond.instanceMethod ⟨"StepMap$Table", "holds", "(I)Z"⟩ ∈ wgood := mw_l (List.mem_of_getElem? (l := tables_1_1) (i := 92) (by decide +kernel)) rfl
theorem mw_1_93 : Cond.selects "StepMap$Table" ⟨"StepMap$Table", "holds", "(I)Z"⟩ ⟨"StepMap$Table", "holds", "(I)Z"⟩ ∈ wgood := mw_l (List.mem_of_getElem? (l := tables_1_1) (i := 93) (by decide +kernel)) rfl
theorem mw_1_94 : Cond.code ⟨"StepMap$Table", "holds", "(I)Z"⟩ prog_2_method_6_code 2 (some .boolean) ∈ wgood := mw_l (List.mem_of_getElem? (l := tables_1_1) (i := 94) (by decide +kernel)) rfl
theorem mw_1_95 : Cond.methodLink "StepMap" 88 ⟨"StepMap", "findOld", "(I)I"⟩ ∈ wgood := mw_l (List.mem_of_getElem? (l := tables_1_1) (i := 95) (by decide +kernel)) rfl
theorem mw_1_97 : Cond.instanceMethod ⟨"StepMap", "findOld", "(I)I"⟩ ∈ wgood := mw_l (List.mem_of_getElem? (l := tables_1_1) (i := 97) (by decide +kernel)) rfl
theorem mw_1_98 : Cond.code ⟨"StepMap", "findOld", "(I)I"⟩ prog_1_method_6_code 3 (some .int) ∈ wgood := mw_l (List.mem_of_getElem? (l := tables_1_1) (i := 98) (by decide +kernel)) rfl
theorem mw_1_99 : Cond.methodLink "StepMap" 47 ⟨"StepMap", "isMigrating", "()Z"⟩ ∈ wgood := mw_l (List.mem_of_getElem? (l := tables_1_1) (i := 99) (by decide +kernel)) rfl
theorem mw_1_101 : Cond.instanceMethod ⟨"StepMap", "isMigrating", "()Z"⟩ ∈ wgood := mw_l (List.mem_of_getElem? (l := tables_1_1) (i := 101) (by decide +kernel)) rfl
theorem mw_1_102 : Cond.code ⟨"StepMap", "isMigrating", "()Z"⟩ prog_1_method_3_code 1 (some .boolean) ∈ wgood := mw_l (List.mem_of_getElem? (l := tables_1_1) (i := 102) (by decide +kernel)) rfl
theorem mw_1_103 : Cond.methodLink "StepMap" 91 ⟨"StepMap", "isFull", "()Z"⟩ ∈ wgood := mw_l (List.mem_of_getElem? (l := tables_1_1) (i := 103) (by decide +kernel)) rfl
theorem mw_1_105 : Cond.instanceMethod ⟨"StepMap", "isFull", "()Z"⟩ ∈ wgood := mw_l (List.mem_of_getElem? (l := tables_1_1) (i := 105) (by decide +kernel)) rfl
theorem mw_1_106 : Cond.code ⟨"StepMap", "isFull", "()Z"⟩ prog_1_method_11_code 2 (some .boolean) ∈ wgood := mw_l (List.mem_of_getElem? (l := tables_1_1) (i := 106) (by decide +kernel)) rfl
theorem mw_1_107 : Cond.methodLink "StepMap" 79 ⟨"StepMap", "isCrowded", "(I)Z"⟩ ∈ wgood := mw_l (List.mem_of_getElem? (l := tables_1_1) (i := 107) (by decide +kernel)) rfl
theorem mw_1_109 : Cond.instanceMethod ⟨"StepMap", "isCrowded", "(I)Z"⟩ ∈ wgood := mw_l (List.mem_of_getElem? (l := tables_1_1) (i := 109) (by decide +kernel)) rfl
theorem mw_1_110 : Cond.code ⟨"StepMap", "isCrowded", "(I)Z"⟩ prog_1_method_8_code 2 (some .boolean) ∈ wgood := mw_l (List.mem_of_getElem? (l := tables_1_1) (i := 110) (by decide +kernel)) rfl
theorem mw_1_111 : Cond.constant "StepMap" 94 (-2000000001 : Int32) ∈ wgood := mw_l (List.mem_of_getElem? (l := tables_1_1) (i := 111) (by decide +kernel)) rfl
theorem mw_1_112 : Cond.methodLink "StepMap" 66 ⟨"StepMap$Table", "put", "(III)V"⟩ ∈ wgood := mw_l (List.mem_of_getElem? (l := tables_1_1) (i := 112) (by decide +kernel)) rfl
theorem mw_1_113 : Cond.instanceMethod ⟨"StepMap$Table", "put", "(III)V"⟩ ∈ wgood := mw_l (List.mem_of_getElem? (l := tables_1_1) (i := 113) (by decide +kernel)) rfl
theorem mw_1_114 : Cond.selects "StepMap$Table" ⟨"StepMap$Table", "put", "(III)V"⟩ ⟨"StepMap$Table", "put", "(III)V"⟩ ∈ wgood := mw_l (List.mem_of_getElem? (l := tables_1_1) (i := 114) (by decide +kernel)) rfl
theorem mw_1_115 : Cond.code ⟨"StepMap$Table", "put", "(III)V"⟩ prog_2_method_7_code 4 none ∈ wgood := mw_l (List.mem_of_getElem? (l := tables_1_1) (i := 115) (by decide +kernel)) rfl
theorem mw_1_116 : Cond.methodLink "StepMap" 95 ⟨"StepMap", "settle", "()V"⟩ ∈ wgood := mw_l (List.mem_of_getElem? (l := tables_1_1) (i := 116) (by decide +kernel)) rfl
theorem mw_1_118 : Cond.instanceMethod ⟨"StepMap", "settle", "()V"⟩ ∈ wgood := mw_l (List.mem_of_getElem? (l := tables_1_1) (i := 118) (by decide +kernel)) rfl
theorem mw_1_119 : Cond.code ⟨"StepMap", "settle", "()V"⟩ prog_1_method_10_code 1 none ∈ wgood := mw_l (List.mem_of_getElem? (l := tables_1_1) (i := 119) (by decide +kernel)) rfl
theorem mw_1_120 : Cond.methodLink "StepMap" 73 ⟨"StepMap", "moveOn", "()V"⟩ ∈ wgood := mw_l (List.mem_of_getElem? (l := tables_1_1) (i := 120) (by decide +kernel)) rfl
theorem mw_1_122 : Cond.instanceMethod ⟨"StepMap", "moveOn", "()V"⟩ ∈ wgood := mw_l (List.mem_of_getElem? (l := tables_1_1) (i := 122) (by decide +kernel)) rfl
theorem mw_1_123 : Cond.code ⟨"StepMap", "moveOn", "()V"⟩ prog_1_method_7_code 3 none ∈ wgood := mw_l (List.mem_of_getElem? (l := tables_1_1) (i := 123) (by decide +kernel)) rfl
theorem mw_1_124 : Cond.methodLink "StepMap" 82 ⟨"StepMap", "change", "(I)V"⟩ ∈ wgood := mw_l (List.mem_of_getElem? (l := tables_1_1) (i := 124) (by decide +kernel)) rfl
theorem mw_1_126 : Cond.instanceMethod ⟨"StepMap", "change", "(I)V"⟩ ∈ wgood := mw_l (List.mem_of_getElem? (l := tables_1_1) (i := 126) (by decide +kernel)) rfl
theorem mw_1_127 : Cond.code ⟨"StepMap", "change", "(I)V"⟩ prog_1_method_9_code 3 none ∈ wgood := mw_l (List.mem_of_getElem? (l := tables_1_1) (i := 127) (by decide +kernel)) rfl
theorem mw_1_128 : Cond.methodLink "StepMap" 98 ⟨"StepMap", "end", "()V"⟩ ∈ wgood := mw_l (List.mem_of_getElem? (l := tables_1_1) (i := 128) (by decide +kernel)) rfl
theorem mw_1_130 : Cond.instanceMethod ⟨"StepMap", "end", "()V"⟩ ∈ wgood := mw_l (List.mem_of_getElem? (l := tables_1_1) (i := 130) (by decide +kernel)) rfl
theorem mw_1_131 : Cond.code ⟨"StepMap", "end", "()V"⟩ prog_1_method_5_code 1 none ∈ wgood := mw_l (List.mem_of_getElem? (l := tables_1_1) (i := 131) (by decide +kernel)) rfl
theorem mw_1_132 : Cond.methodLink "StepMapLaw" 26 ⟨"StepMap", "get", "(I)I"⟩ ∈ wgood := mw_l (List.mem_of_getElem? (l := tables_1_1) (i := 132) (by decide +kernel)) rfl
theorem mw_1_133 : Cond.instanceMethod ⟨"StepMap", "get", "(I)I"⟩ ∈ wgood := mw_l (List.mem_of_getElem? (l := tables_1_1) (i := 133) (by decide +kernel)) rfl
theorem mw_1_134 : Cond.selects "StepMap" ⟨"StepMap", "get", "(I)I"⟩ ⟨"StepMap", "get", "(I)I"⟩ ∈ wgood := mw_l (List.mem_of_getElem? (l := tables_1_1) (i := 134) (by decide +kernel)) rfl
theorem mw_1_135 : Cond.code ⟨"StepMap", "get", "(I)I"⟩ prog_1_method_13_code 4 (some .int) ∈ wgood := mw_l (List.mem_of_getElem? (l := tables_1_1) (i := 135) (by decide +kernel)) rfl
theorem mw_1_136 : Cond.methodLink "StepMapLaw" 31 ⟨"StepMap", "has", "(I)Z"⟩ ∈ wgood := mw_l (List.mem_of_getElem? (l := tables_1_1) (i := 136) (by decide +kernel)) rfl
theorem mw_1_137 : Cond.instanceMethod ⟨"StepMap", "has", "(I)Z"⟩ ∈ wgood := mw_l (List.mem_of_getElem? (l := tables_1_1) (i := 137) (by decide +kernel)) rfl
theorem mw_1_138 : Cond.selects "StepMap" ⟨"StepMap", "has", "(I)Z"⟩ ⟨"StepMap", "has", "(I)Z"⟩ ∈ wgood := mw_l (List.mem_of_getElem? (l := tables_1_1) (i := 138) (by decide +kernel)) rfl
theorem mw_1_139 : Cond.code ⟨"StepMap", "has", "(I)Z"⟩ prog_1_method_14_code 3 (some .boolean) ∈ wgood := mw_l (List.mem_of_getElem? (l := tables_1_1) (i := 139) (by decide +kernel)) rfl
theorem mw_1_140 : Cond.methodLink "StepMapLaw" 36 ⟨"StepMap", "remove", "(I)Z"⟩ ∈ wgood := mw_l (List.mem_of_getElem? (l := tables_1_1) (i := 140) (by decide +kernel)) rfl
theorem mw_1_141 : Cond.instanceMethod ⟨"StepMap", "remove", "(I)Z"⟩ ∈ wgood := mw_l (List.mem_of_getElem? (l := tables_1_1) (i := 141) (by decide +kernel)) rfl
theorem mw_1_142 : Cond.selects "StepMap" ⟨"StepMap", "remove", "(I)Z"⟩ ⟨"StepMap", "remove", "(I)Z"⟩ ∈ wgood := mw_l (List.mem_of_getElem? (l := tables_1_1) (i := 142) (by decide +kernel)) rfl
theorem mw_1_143 : Cond.code ⟨"StepMap", "remove", "(I)Z"⟩ prog_1_method_15_code 5 (some .boolean) ∈ wgood := mw_l (List.mem_of_getElem? (l := tables_1_1) (i := 143) (by decide +kernel)) rfl
theorem mw_1_144 : Cond.methodLink "StepMap" 101 ⟨"StepMap$Table", "closeUp", "(I)V"⟩ ∈ wgood := mw_l (List.mem_of_getElem? (l := tables_1_1) (i := 144) (by decide +kernel)) rfl
theorem mw_1_145 : Cond.instanceMethod ⟨"StepMap$Table", "closeUp", "(I)V"⟩ ∈ wgood := mw_l (List.mem_of_getElem? (l := tables_1_1) (i := 145) (by decide +kernel)) rfl
theorem mw_1_146 : Cond.selects "StepMap$Table" ⟨"StepMap$Table", "closeUp", "(I)V"⟩ ⟨"StepMap$Table", "closeUp", "(I)V"⟩ ∈ wgood := mw_l (List.mem_of_getElem? (l := tables_1_1) (i := 146) (by decide +kernel)) rfl
theorem mw_1_147 : Cond.code ⟨"StepMap$Table", "closeUp", "(I)V"⟩ prog_2_method_8_code 5 none ∈ wgood := mw_l (List.mem_of_getElem? (l := tables_1_1) (i := 147) (by decide +kernel)) rfl
theorem mw_1_148 : Cond.methodLink "StepMap$Table" 38 ⟨"StepMap$Table", "put", "(III)V"⟩ ∈ wgood := mw_l (List.mem_of_getElem? (l := tables_1_1) (i := 148) (by decide +kernel)) rfl
theorem mw_1_149 : Cond.methodLink "StepMapLaw" 40 ⟨"StepMap", "size", "()I"⟩ ∈ wgood := mw_l (List.mem_of_getElem? (l := tables_1_1) (i := 149) (by decide +kernel)) rfl
theorem mw_1_150 : Cond.instanceMethod ⟨"StepMap", "size", "()I"⟩ ∈ wgood := mw_l (List.mem_of_getElem? (l := tables_1_1) (i := 150) (by decide +kernel)) rfl
theorem mw_1_151 : Cond.selects "StepMap" ⟨"StepMap", "size", "()I"⟩ ⟨"StepMap", "size", "()I"⟩ ∈ wgood := mw_l (List.mem_of_getElem? (l := tables_1_1) (i := 151) (by decide +kernel)) rfl
theorem mw_1_152 : Cond.code ⟨"StepMap", "size", "()I"⟩ prog_1_method_16_code 1 (some .int) ∈ wgood := mw_l (List.mem_of_getElem? (l := tables_1_1) (i := 152) (by decide +kernel)) rfl
theorem mw_1_153 : Cond.methodLink "StepMapLaw" 45 ⟨"StepMap", "capacity", "()I"⟩ ∈ wgood := mw_l (List.mem_of_getElem? (l := tables_1_1) (i := 153) (by decide +kernel)) rfl
theorem mw_1_154 : Cond.instanceMethod ⟨"StepMap", "capacity", "()I"⟩ ∈ wgood := mw_l (List.mem_of_getElem? (l := tables_1_1) (i := 154) (by decide +kernel)) rfl
theorem mw_1_155 : Cond.selects "StepMap" ⟨"StepMap", "capacity", "()I"⟩ ⟨"StepMap", "capacity", "()I"⟩ ∈ wgood := mw_l (List.mem_of_getElem? (l := tables_1_1) (i := 155) (by decide +kernel)) rfl
theorem mw_1_156 : Cond.code ⟨"StepMap", "capacity", "()I"⟩ prog_1_method_17_code 1 (some .int) ∈ wgood := mw_l (List.mem_of_getElem? (l := tables_1_1) (i := 156) (by decide +kernel)) rfl
theorem mw_1_157 : Cond.methodLink "StepMapLaw" 49 ⟨"StepMap", "migrating", "()Z"⟩ ∈ wgood := mw_l (List.mem_of_getElem? (l := tables_1_1) (i := 157) (by decide +kernel)) rfl
theorem mw_1_158 : Cond.instanceMethod ⟨"StepMap", "migrating", "()Z"⟩ ∈ wgood := mw_l (List.mem_of_getElem? (l := tables_1_1) (i := 158) (by decide +kernel)) rfl
theorem mw_1_159 : Cond.selects "StepMap" ⟨"StepMap", "migrating", "()Z"⟩ ⟨"StepMap", "migrating", "()Z"⟩ ∈ wgood := mw_l (List.mem_of_getElem? (l := tables_1_1) (i := 159) (by decide +kernel)) rfl
theorem mw_1_160 : Cond.code ⟨"StepMap", "migrating", "()Z"⟩ prog_1_method_18_code 1 (some .boolean) ∈ wgood := mw_l (List.mem_of_getElem? (l := tables_1_1) (i := 160) (by decide +kernel)) rfl
theorem mw_1_161 : Cond.methodLink "StepMapLaw" 54 ⟨"StepMap", "lastWork", "()I"⟩ ∈ wgood := mw_l (List.mem_of_getElem? (l := tables_1_1) (i := 161) (by decide +kernel)) rfl
theorem mw_1_162 : Cond.instanceMethod ⟨"StepMap", "lastWork", "()I"⟩ ∈ wgood := mw_l (List.mem_of_getElem? (l := tables_1_1) (i := 162) (by decide +kernel)) rfl
theorem mw_1_163 : Cond.selects "StepMap" ⟨"StepMap", "lastWork", "()I"⟩ ⟨"StepMap", "lastWork", "()I"⟩ ∈ wgood := mw_l (List.mem_of_getElem? (l := tables_1_1) (i := 163) (by decide +kernel)) rfl
theorem mw_1_164 : Cond.code ⟨"StepMap", "lastWork", "()I"⟩ prog_1_method_19_code 1 (some .int) ∈ wgood := mw_l (List.mem_of_getElem? (l := tables_1_1) (i := 164) (by decide +kernel)) rfl
theorem mw_1_165 : Cond.methodLink "StepMapLaw" 58 ⟨"StepMap", "slot", "(I)I"⟩ ∈ wgood := mw_l (List.mem_of_getElem? (l := tables_1_1) (i := 165) (by decide +kernel)) rfl
theorem mw_1_166 : Cond.instanceMethod ⟨"StepMap", "slot", "(I)I"⟩ ∈ wgood := mw_l (List.mem_of_getElem? (l := tables_1_1) (i := 166) (by decide +kernel)) rfl
theorem mw_1_167 : Cond.selects "StepMap" ⟨"StepMap", "slot", "(I)I"⟩ ⟨"StepMap", "slot", "(I)I"⟩ ∈ wgood := mw_l (List.mem_of_getElem? (l := tables_1_1) (i := 167) (by decide +kernel)) rfl
theorem mw_1_168 : Cond.code ⟨"StepMap", "slot", "(I)I"⟩ prog_1_method_20_code 4 (some .int) ∈ wgood := mw_l (List.mem_of_getElem? (l := tables_1_1) (i := 168) (by decide +kernel)) rfl
theorem mw_1_169 : Cond.methodLink "StepMapLaw" 62 ⟨"StepMap", "cursor", "()I"⟩ ∈ wgood := mw_l (List.mem_of_getElem? (l := tables_1_1) (i := 169) (by decide +kernel)) rfl
theorem mw_1_170 : Cond.instanceMethod ⟨"StepMap", "cursor", "()I"⟩ ∈ wgood := mw_l (List.mem_of_getElem? (l := tables_1_1) (i := 170) (by decide +kernel)) rfl
theorem mw_1_171 : Cond.selects "StepMap" ⟨"StepMap", "cursor", "()I"⟩ ⟨"StepMap", "cursor", "()I"⟩ ∈ wgood := mw_l (List.mem_of_getElem? (l := tables_1_1) (i := 171) (by decide +kernel)) rfl
theorem mw_1_172 : Cond.code ⟨"StepMap", "cursor", "()I"⟩ prog_1_method_21_code 1 (some .int) ∈ wgood := mw_l (List.mem_of_getElem? (l := tables_1_1) (i := 172) (by decide +kernel)) rfl
theorem mw_1_173 : Cond.methodLink "StepMapLaw" 9 ⟨"StepMapLaw", "cell", "([II)I"⟩ ∈ wgood := mw_l (List.mem_of_getElem? (l := tables_1_1) (i := 173) (by decide +kernel)) rfl
theorem mw_1_174 : Cond.static ⟨"StepMapLaw", "cell", "([II)I"⟩ ∈ wgood := mw_l (List.mem_of_getElem? (l := tables_1_1) (i := 174) (by decide +kernel)) rfl
theorem mw_1_175 : Cond.code ⟨"StepMapLaw", "cell", "([II)I"⟩ method_2_code 2 (some .int) ∈ wgood := mw_l (List.mem_of_getElem? (l := tables_1_1) (i := 175) (by decide +kernel)) rfl
theorem mw_1_176 : Cond.classLink "StepMapLaw" 18 "StepMapModel" ∈ wgood := mw_l (List.mem_of_getElem? (l := tables_1_1) (i := 176) (by decide +kernel)) rfl
theorem mw_1_177 : Cond.instantiable "StepMapModel" 12 ∈ wgood := mw_l (List.mem_of_getElem? (l := tables_1_1) (i := 177) (by decide +kernel)) rfl
theorem mw_1_178 : Cond.methodLink "StepMapLaw" 20 ⟨"StepMapModel", "<init>", "(I)V"⟩ ∈ wgood := mw_l (List.mem_of_getElem? (l := tables_1_1) (i := 178) (by decide +kernel)) rfl
theorem mw_1_179 : Cond.instanceMethod ⟨"StepMapModel", "<init>", "(I)V"⟩ ∈ wgood := mw_l (List.mem_of_getElem? (l := tables_1_1) (i := 179) (by decide +kernel)) rfl
theorem mw_1_180 : Cond.code ⟨"StepMapModel", "<init>", "(I)V"⟩ prog_4_method_1_code 3 none ∈ wgood := mw_l (List.mem_of_getElem? (l := tables_1_1) (i := 180) (by decide +kernel)) rfl
theorem mw_1_181 : Cond.methodLink "StepMapModel" 1 ⟨"java/lang/Object", "<init>", "()V"⟩ ∈ wgood := mw_l (List.mem_of_getElem? (l := tables_1_1) (i := 181) (by decide +kernel)) rfl
theorem mw_1_182 : Cond.fieldLink "StepMapModel" 26 "StepMapModel" "thrown" "I" ∈ wgood := mw_l (List.mem_of_getElem? (l := tables_1_1) (i := 182) (by decide +kernel)) rfl
theorem mw_1_183 : Cond.fieldLink "StepMapModel" 22 "StepMapModel" "half" "I" ∈ wgood := mw_l (List.mem_of_getElem? (l := tables_1_1) (i := 183) (by decide +kernel)) rfl
theorem mw_1_184 : Cond.fieldLink "StepMapModel" 7 "StepMapModel" "states" "[I" ∈ wgood := mw_l (List.mem_of_getElem? (l := tables_1_1) (i := 184) (by decide +kernel)) rfl
theorem mw_1_185 : Cond.fieldLink "StepMapModel" 13 "StepMapModel" "keys" "[I" ∈ wgood := mw_l (List.mem_of_getElem? (l := tables_1_1) (i := 185) (by decide +kernel)) rfl
theorem mw_1_186 : Cond.fieldLink "StepMapModel" 16 "StepMapModel" "values" "[I" ∈ wgood := mw_l (List.mem_of_getElem? (l := tables_1_1) (i := 186) (by decide +kernel)) rfl
theorem mw_1_187 : Cond.fieldLink "StepMapModel" 19 "StepMapModel" "sizes" "[I" ∈ wgood := mw_l (List.mem_of_getElem? (l := tables_1_1) (i := 187) (by decide +kernel)) rfl
theorem mw_1_188 : Cond.fieldLink "StepMapModel" 43 "StepMapModel" "current" "I" ∈ wgood := mw_l (List.mem_of_getElem? (l := tables_1_1) (i := 188) (by decide +kernel)) rfl
theorem mw_1_189 : Cond.fieldLink "StepMapModel" 56 "StepMapModel" "moving" "Z" ∈ wgood := mw_l (List.mem_of_getElem? (l := tables_1_1) (i := 189) (by decide +kernel)) rfl
theorem mw_1_190 : Cond.fieldLink "StepMapModel" 46 "StepMapModel" "cursor" "I" ∈ wgood := mw_l (List.mem_of_getElem? (l := tables_1_1) (i := 190) (by decide +kernel)) rfl
theorem mw_1_191 : Cond.fieldLink "StepMapModel" 63 "StepMapModel" "count" "I" ∈ wgood := mw_l (List.mem_of_getElem? (l := tables_1_1) (i := 191) (by decide +kernel)) rfl
theorem mw_1_192 : Cond.fieldLink "StepMapModel" 34 "StepMapModel" "visits" "I" ∈ wgood := mw_l (List.mem_of_getElem? (l := tables_1_1) (i := 192) (by decide +kernel)) rfl
theorem mw_1_193 : Cond.fieldLink "StepMapModel" 78 "StepMapModel" "work" "I" ∈ wgood := mw_l (List.mem_of_getElem? (l := tables_1_1) (i := 193) (by decide +kernel)) rfl
theorem mw_1_194 : Cond.lays "StepMapModel" "StepMapModel" "thrown" "I" ∈ wgood := mw_l (List.mem_of_getElem? (l := tables_1_1) (i := 194) (by decide +kernel)) rfl
theorem mw_1_196 : Cond.laysFinal "StepMapModel" "StepMapModel" "half" "I" ∈ wgood := mw_l (List.mem_of_getElem? (l := tables_1_1) (i := 196) (by decide +kernel)) rfl
theorem mw_1_198 : Cond.laysFinal "StepMapModel" "StepMapModel" "states" "[I" ∈ wgood := mw_l (List.mem_of_getElem? (l := tables_1_1) (i := 198) (by decide +kernel)) rfl
theorem mw_1_200 : Cond.laysFinal "StepMapModel" "StepMapModel" "keys" "[I" ∈ wgood := mw_l (List.mem_of_getElem? (l := tables_1_1) (i := 200) (by decide +kernel)) rfl
theorem mw_1_202 : Cond.laysFinal "StepMapModel" "StepMapModel" "values" "[I" ∈ wgood := mw_l (List.mem_of_getElem? (l := tables_1_1) (i := 202) (by decide +kernel)) rfl
theorem mw_1_204 : Cond.laysFinal "StepMapModel" "StepMapModel" "sizes" "[I" ∈ wgood := mw_l (List.mem_of_getElem? (l := tables_1_1) (i := 204) (by decide +kernel)) rfl
theorem mw_1_206 : Cond.lays "StepMapModel" "StepMapModel" "current" "I" ∈ wgood := mw_l (List.mem_of_getElem? (l := tables_1_1) (i := 206) (by decide +kernel)) rfl
theorem mw_1_208 : Cond.lays "StepMapModel" "StepMapModel" "moving" "Z" ∈ wgood := mw_l (List.mem_of_getElem? (l := tables_1_1) (i := 208) (by decide +kernel)) rfl
theorem mw_1_210 : Cond.lays "StepMapModel" "StepMapModel" "cursor" "I" ∈ wgood := mw_l (List.mem_of_getElem? (l := tables_1_1) (i := 210) (by decide +kernel)) rfl
theorem mw_1_212 : Cond.lays "StepMapModel" "StepMapModel" "count" "I" ∈ wgood := mw_l (List.mem_of_getElem? (l := tables_1_1) (i := 212) (by decide +kernel)) rfl
theorem mw_1_214 : Cond.lays "StepMapModel" "StepMapModel" "visits" "I" ∈ wgood := mw_l (List.mem_of_getElem? (l := tables_1_1) (i := 214) (by decide +kernel)) rfl
theorem mw_1_216 : Cond.lays "StepMapModel" "StepMapModel" "work" "I" ∈ wgood := mw_l (List.mem_of_getElem? (l := tables_1_1) (i := 216) (by decide +kernel)) rfl
theorem mw_1_219 : Cond.methodLink "StepMapLaw" 25 ⟨"StepMapModel", "put", "(II)I"⟩ ∈ wgood := mw_l (List.mem_of_getElem? (l := tables_1_1) (i := 219) (by decide +kernel)) rfl
theorem mw_1_220 : Cond.instanceMethod ⟨"StepMapModel", "put", "(II)I"⟩ ∈ wgood := mw_l (List.mem_of_getElem? (l := tables_1_1) (i := 220) (by decide +kernel)) rfl
theorem mw_1_221 : Cond.selects "StepMapModel" ⟨"StepMapModel", "put", "(II)I"⟩ ⟨"StepMapModel", "put", "(II)I"⟩ ∈ wgood := mw_l (List.mem_of_getElem? (l := tables_1_1) (i := 221) (by decide +kernel)) rfl
theorem mw_1_222 : Cond.code ⟨"StepMapModel", "put", "(II)I"⟩ prog_4_method_13_code 6 (some .int) ∈ wgood := mw_l (List.mem_of_getElem? (l := tables_1_1) (i := 222) (by decide +kernel)) rfl
theorem mw_1_223 : Cond.methodLink "StepMapModel" 49 ⟨"StepMapModel", "look", "(II)I"⟩ ∈ wgood := mw_l (List.mem_of_getElem? (l := tables_1_1) (i := 223) (by decide +kernel)) rfl
theorem mw_1_225 : Cond.instanceMethod ⟨"StepMapModel", "look", "(II)I"⟩ ∈ wgood := mw_l (List.mem_of_getElem? (l := tables_1_1) (i := 225) (by decide +kernel)) rfl
theorem mw_1_226 : Cond.code ⟨"StepMapModel", "look", "(II)I"⟩ prog_4_method_6_code 4 (some .int) ∈ wgood := mw_l (List.mem_of_getElem? (l := tables_1_1) (i := 226) (by decide +kernel)) rfl
theorem mw_1_227 : Cond.methodLink "StepMapModel" 30 ⟨"StepMapModel", "home", "(II)I"⟩ ∈ wgood := mw_l (List.mem_of_getElem? (l := tables_1_1) (i := 227) (by decide +kernel)) rfl
theorem mw_1_229 : Cond.instanceMethod ⟨"StepMapModel", "home", "(II)I"⟩ ∈ wgood := mw_l (List.mem_of_getElem? (l := tables_1_1) (i := 229) (by decide +kernel)) rfl
theorem mw_1_230 : Cond.code ⟨"StepMapModel", "home", "(II)I"⟩ prog_4_method_3_code 5 (some .int) ∈ wgood := mw_l (List.mem_of_getElem? (l := tables_1_1) (i := 230) (by decide +kernel)) rfl
theorem mw_1_231 : Cond.constant "StepMapModel" 29 (-1640531535 : Int32) ∈ wgood := mw_l (List.mem_of_getElem? (l := tables_1_1) (i := 231) (by decide +kernel)) rfl
theorem mw_1_232 : Cond.methodLink "StepMapModel" 37 ⟨"StepMapModel", "at", "(II)I"⟩ ∈ wgood := mw_l (List.mem_of_getElem? (l := tables_1_1) (i := 232) (by decide +kernel)) rfl
theorem mw_1_234 : Cond.instanceMethod ⟨"StepMapModel", "at", "(II)I"⟩ ∈ wgood := mw_l (List.mem_of_getElem? (l := tables_1_1) (i := 234) (by decide +kernel)) rfl
theorem mw_1_235 : Cond.code ⟨"StepMapModel", "at", "(II)I"⟩ prog_4_method_5_code 3 (some .int) ∈ wgood := mw_l (List.mem_of_getElem? (l := tables_1_1) (i := 235) (by decide +kernel)) rfl
theorem mw_1_236 : Cond.methodLink "StepMapModel" 40 ⟨"StepMapModel", "behind", "(II)I"⟩ ∈ wgood := mw_l (List.mem_of_getElem? (l := tables_1_1) (i := 236) (by decide +kernel)) rfl
theorem mw_1_238 : Cond.instanceMethod ⟨"StepMapModel", "behind", "(II)I"⟩ ∈ wgood := mw_l (List.mem_of_getElem? (l := tables_1_1) (i := 238) (by decide +kernel)) rfl
theorem mw_1_239 : Cond.code ⟨"StepMapModel", "behind", "(II)I"⟩ prog_4_method_4_code 3 (some .int) ∈ wgood := mw_l (List.mem_of_getElem? (l := tables_1_1) (i := 239) (by decide +kernel)) rfl
theorem mw_2_0 : Cond.methodLink "StepMapModel" 70 ⟨"StepMapModel", "isFull", "()Z"⟩ ∈ wgood := mw_r (List.mem_of_getElem? (l := tables_1_2) (i := 0) (by decide +kernel)) rfl
theorem mw_2_2 : Cond.instanceMethod ⟨"StepMapModel", "isFull", "()Z"⟩ ∈ wgood := mw_r (List.mem_of_getElem? (l := tables_1_2) (i := 2) (by decide +kernel)) rfl
theorem mw_2_3 : Cond.code ⟨"StepMapModel", "isFull", "()Z"⟩ prog_4_method_11_code 2 (some .boolean) ∈ wgood := mw_r (List.mem_of_getElem? (l := tables_1_2) (i := 3) (by decide +kernel)) rfl
theorem mw_2_4 : Cond.constant "StepMapModel" 74 (-2000000001 : Int32) ∈ wgood := mw_r (List.mem_of_getElem? (l := tables_1_2) (i := 4) (by decide +kernel)) rfl
theorem mw_2_5 : Cond.methodLink "StepMapModel" 52 ⟨"StepMapModel", "lay", "(IIII)V"⟩ ∈ wgood := mw_r (List.mem_of_getElem? (l := tables_1_2) (i := 5) (by decide +kernel)) rfl
theorem mw_2_7 : Cond.instanceMethod ⟨"StepMapModel", "lay", "(IIII)V"⟩ ∈ wgood := mw_r (List.mem_of_getElem? (l := tables_1_2) (i := 7) (by decide +kernel)) rfl
theorem mw_2_8 : Cond.code ⟨"StepMapModel", "lay", "(IIII)V"⟩ prog_4_method_7_code 5 none ∈ wgood := mw_r (List.mem_of_getElem? (l := tables_1_2) (i := 8) (by decide +kernel)) rfl
theorem mw_2_9 : Cond.methodLink "StepMapModel" 75 ⟨"StepMapModel", "settle", "()V"⟩ ∈ wgood := mw_r (List.mem_of_getElem? (l := tables_1_2) (i := 9) (by decide +kernel)) rfl
theorem mw_2_11 : Cond.instanceMethod ⟨"StepMapModel", "settle", "()V"⟩ ∈ wgood := mw_r (List.mem_of_getElem? (l := tables_1_2) (i := 11) (by decide +kernel)) rfl
theorem mw_2_12 : Cond.code ⟨"StepMapModel", "settle", "()V"⟩ prog_4_method_10_code 2 none ∈ wgood := mw_r (List.mem_of_getElem? (l := tables_1_2) (i := 12) (by decide +kernel)) rfl
theorem mw_2_13 : Cond.methodLink "StepMapModel" 60 ⟨"StepMapModel", "moveSome", "()V"⟩ ∈ wgood := mw_r (List.mem_of_getElem? (l := tables_1_2) (i := 13) (by decide +kernel)) rfl
theorem mw_2_15 : Cond.instanceMethod ⟨"StepMapModel", "moveSome", "()V"⟩ ∈ wgood := mw_r (List.mem_of_getElem? (l := tables_1_2) (i := 15) (by decide +kernel)) rfl
theorem mw_2_16 : Cond.code ⟨"StepMapModel", "moveSome", "()V"⟩ prog_4_method_8_code 5 none ∈ wgood := mw_r (List.mem_of_getElem? (l := tables_1_2) (i := 16) (by decide +kernel)) rfl
theorem mw_2_17 : Cond.methodLink "StepMapModel" 66 ⟨"StepMapModel", "become", "(I)V"⟩ ∈ wgood := mw_r (List.mem_of_getElem? (l := tables_1_2) (i := 17) (by decide +kernel)) rfl
theorem mw_2_19 : Cond.instanceMethod ⟨"StepMapModel", "become", "(I)V"⟩ ∈ wgood := mw_r (List.mem_of_getElem? (l := tables_1_2) (i := 19) (by decide +kernel)) rfl
theorem mw_2_20 : Cond.code ⟨"StepMapModel", "become", "(I)V"⟩ prog_4_method_9_code 3 none ∈ wgood := mw_r (List.mem_of_getElem? (l := tables_1_2) (i := 20) (by decide +kernel)) rfl
theorem mw_2_21 : Cond.methodLink "StepMapLaw" 30 ⟨"StepMapModel", "get", "(I)I"⟩ ∈ wgood := mw_r (List.mem_of_getElem? (l := tables_1_2) (i := 21) (by decide +kernel)) rfl
theorem mw_2_22 : Cond.instanceMethod ⟨"StepMapModel", "get", "(I)I"⟩ ∈ wgood := mw_r (List.mem_of_getElem? (l := tables_1_2) (i := 22) (by decide +kernel)) rfl
theorem mw_2_23 : Cond.selects "StepMapModel" ⟨"StepMapModel", "get", "(I)I"⟩ ⟨"StepMapModel", "get", "(I)I"⟩ ∈ wgood := mw_r (List.mem_of_getElem? (l := tables_1_2) (i := 23) (by decide +kernel)) rfl
theorem mw_2_24 : Cond.code ⟨"StepMapModel", "get", "(I)I"⟩ prog_4_method_14_code 3 (some .int) ∈ wgood := mw_r (List.mem_of_getElem? (l := tables_1_2) (i := 24) (by decide +kernel)) rfl
theorem mw_2_25 : Cond.methodLink "StepMapModel" 81 ⟨"StepMapModel", "find", "(I)I"⟩ ∈ wgood := mw_r (List.mem_of_getElem? (l := tables_1_2) (i := 25) (by decide +kernel)) rfl
theorem mw_2_27 : Cond.instanceMethod ⟨"StepMapModel", "find", "(I)I"⟩ ∈ wgood := mw_r (List.mem_of_getElem? (l := tables_1_2) (i := 27) (by decide +kernel)) rfl
theorem mw_2_28 : Cond.code ⟨"StepMapModel", "find", "(I)I"⟩ prog_4_method_12_code 4 (some .int) ∈ wgood := mw_r (List.mem_of_getElem? (l := tables_1_2) (i := 28) (by decide +kernel)) rfl
theorem mw_2_29 : Cond.methodLink "StepMapLaw" 35 ⟨"StepMapModel", "has", "(I)Z"⟩ ∈ wgood := mw_r (List.mem_of_getElem? (l := tables_1_2) (i := 29) (by decide +kernel)) rfl
theorem mw_2_30 : Cond.instanceMethod ⟨"StepMapModel", "has", "(I)Z"⟩ ∈ wgood := mw_r (List.mem_of_getElem? (l := tables_1_2) (i := 30) (by decide +kernel)) rfl
theorem mw_2_31 : Cond.selects "StepMapModel" ⟨"StepMapModel", "has", "(I)Z"⟩ ⟨"StepMapModel", "has", "(I)Z"⟩ ∈ wgood := mw_r (List.mem_of_getElem? (l := tables_1_2) (i := 31) (by decide +kernel)) rfl
theorem mw_2_32 : Cond.code ⟨"StepMapModel", "has", "(I)Z"⟩ prog_4_method_15_code 3 (some .boolean) ∈ wgood := mw_r (List.mem_of_getElem? (l := tables_1_2) (i := 32) (by decide +kernel)) rfl
theorem mw_2_33 : Cond.methodLink "StepMapLaw" 39 ⟨"StepMapModel", "remove", "(I)Z"⟩ ∈ wgood := mw_r (List.mem_of_getElem? (l := tables_1_2) (i := 33) (by decide +kernel)) rfl
theorem mw_2_34 : Cond.instanceMethod ⟨"StepMapModel", "remove", "(I)Z"⟩ ∈ wgood := mw_r (List.mem_of_getElem? (l := tables_1_2) (i := 34) (by decide +kernel)) rfl
theorem mw_2_35 : Cond.selects "StepMapModel" ⟨"StepMapModel", "remove", "(I)Z"⟩ ⟨"StepMapModel", "remove", "(I)Z"⟩ ∈ wgood := mw_r (List.mem_of_getElem? (l := tables_1_2) (i := 35) (by decide +kernel)) rfl
theorem mw_2_36 : Cond.code ⟨"StepMapModel", "remove", "(I)Z"⟩ prog_4_method_18_code 4 (some .boolean) ∈ wgood := mw_r (List.mem_of_getElem? (l := tables_1_2) (i := 36) (by decide +kernel)) rfl
theorem mw_2_37 : Cond.methodLink "StepMapModel" 88 ⟨"StepMapModel", "free", "(I)V"⟩ ∈ wgood := mw_r (List.mem_of_getElem? (l := tables_1_2) (i := 37) (by decide +kernel)) rfl
theorem mw_2_39 : Cond.instanceMethod ⟨"StepMapModel", "free", "(I)V"⟩ ∈ wgood := mw_r (List.mem_of_getElem? (l := tables_1_2) (i := 39) (by decide +kernel)) rfl
theorem mw_2_40 : Cond.code ⟨"StepMapModel", "free", "(I)V"⟩ prog_4_method_17_code 5 none ∈ wgood := mw_r (List.mem_of_getElem? (l := tables_1_2) (i := 40) (by decide +kernel)) rfl
theorem mw_2_41 : Cond.methodLink "StepMapModel" 85 ⟨"StepMapModel", "steps", "(II)I"⟩ ∈ wgood := mw_r (List.mem_of_getElem? (l := tables_1_2) (i := 41) (by decide +kernel)) rfl
theorem mw_2_43 : Cond.instanceMethod ⟨"StepMapModel", "steps", "(II)I"⟩ ∈ wgood := mw_r (List.mem_of_getElem? (l := tables_1_2) (i := 43) (by decide +kernel)) rfl
theorem mw_2_44 : Cond.code ⟨"StepMapModel", "steps", "(II)I"⟩ prog_4_method_16_code 5 (some .int) ∈ wgood := mw_r (List.mem_of_getElem? (l := tables_1_2) (i := 44) (by decide +kernel)) rfl
theorem mw_2_45 : Cond.methodLink "StepMapLaw" 44 ⟨"StepMapModel", "size", "()I"⟩ ∈ wgood := mw_r (List.mem_of_getElem? (l := tables_1_2) (i := 45) (by decide +kernel)) rfl
theorem mw_2_46 : Cond.instanceMethod ⟨"StepMapModel", "size", "()I"⟩ ∈ wgood := mw_r (List.mem_of_getElem? (l := tables_1_2) (i := 46) (by decide +kernel)) rfl
theorem mw_2_47 : Cond.selects "StepMapModel" ⟨"StepMapModel", "size", "()I"⟩ ⟨"StepMapModel", "size", "()I"⟩ ∈ wgood := mw_r (List.mem_of_getElem? (l := tables_1_2) (i := 47) (by decide +kernel)) rfl
theorem mw_2_48 : Cond.code ⟨"StepMapModel", "size", "()I"⟩ prog_4_method_19_code 1 (some .int) ∈ wgood := mw_r (List.mem_of_getElem? (l := tables_1_2) (i := 48) (by decide +kernel)) rfl
theorem mw_2_49 : Cond.methodLink "StepMapLaw" 48 ⟨"StepMapModel", "capacity", "()I"⟩ ∈ wgood := mw_r (List.mem_of_getElem? (l := tables_1_2) (i := 49) (by decide +kernel)) rfl
theorem mw_2_50 : Cond.instanceMethod ⟨"StepMapModel", "capacity", "()I"⟩ ∈ wgood := mw_r (List.mem_of_getElem? (l := tables_1_2) (i := 50) (by decide +kernel)) rfl
theorem mw_2_51 : Cond.selects "StepMapModel" ⟨"StepMapModel", "capacity", "()I"⟩ ⟨"StepMapModel", "capacity", "()I"⟩ ∈ wgood := mw_r (List.mem_of_getElem? (l := tables_1_2) (i := 51) (by decide +kernel)) rfl
theorem mw_2_52 : Cond.code ⟨"StepMapModel", "capacity", "()I"⟩ prog_4_method_20_code 1 (some .int) ∈ wgood := mw_r (List.mem_of_getElem? (l := tables_1_2) (i := 52) (by decide +kernel)) rfl
theorem mw_2_53 : Cond.methodLink "StepMapLaw" 53 ⟨"StepMapModel", "migrating", "()Z"⟩ ∈ wgood := mw_r (List.mem_of_getElem? (l := tables_1_2) (i := 53) (by decide +kernel)) rfl
theorem mw_2_54 : Cond.instanceMethod ⟨"StepMapModel", "migrating", "()Z"⟩ ∈ wgood := mw_r (List.mem_of_getElem? (l := tables_1_2) (i := 54) (by decide +kernel)) rfl
theorem mw_2_55 : Cond.selects "StepMapModel" ⟨"StepMapModel", "migrating", "()Z"⟩ ⟨"StepMapModel", "migrating", "()Z"⟩ ∈ wgood := mw_r (List.mem_of_getElem? (l := tables_1_2) (i := 55) (by decide +kernel)) rfl
theorem mw_2_56 : Cond.code ⟨"StepMapModel", "migrating", "()Z"⟩ prog_4_method_21_code 1 (some .boolean) ∈ wgood := mw_r (List.mem_of_getElem? (l := tables_1_2) (i := 56) (by decide +kernel)) rfl
theorem mw_2_57 : Cond.methodLink "StepMapLaw" 57 ⟨"StepMapModel", "lastWork", "()I"⟩ ∈ wgood := mw_r (List.mem_of_getElem? (l := tables_1_2) (i := 57) (by decide +kernel)) rfl
theorem mw_2_58 : Cond.instanceMethod ⟨"StepMapModel", "lastWork", "()I"⟩ ∈ wgood := mw_r (List.mem_of_getElem? (l := tables_1_2) (i := 58) (by decide +kernel)) rfl
theorem mw_2_59 : Cond.selects "StepMapModel" ⟨"StepMapModel", "lastWork", "()I"⟩ ⟨"StepMapModel", "lastWork", "()I"⟩ ∈ wgood := mw_r (List.mem_of_getElem? (l := tables_1_2) (i := 59) (by decide +kernel)) rfl
theorem mw_2_60 : Cond.code ⟨"StepMapModel", "lastWork", "()I"⟩ prog_4_method_22_code 1 (some .int) ∈ wgood := mw_r (List.mem_of_getElem? (l := tables_1_2) (i := 60) (by decide +kernel)) rfl
theorem mw_2_61 : Cond.methodLink "StepMapLaw" 61 ⟨"StepMapModel", "slot", "(I)I"⟩ ∈ wgood := mw_r (List.mem_of_getElem? (l := tables_1_2) (i := 61) (by decide +kernel)) rfl
theorem mw_2_62 : Cond.instanceMethod ⟨"StepMapModel", "slot", "(I)I"⟩ ∈ wgood := mw_r (List.mem_of_getElem? (l := tables_1_2) (i := 62) (by decide +kernel)) rfl
theorem mw_2_63 : Cond.selects "StepMapModel" ⟨"StepMapModel", "slot", "(I)I"⟩ ⟨"StepMapModel", "slot", "(I)I"⟩ ∈ wgood := mw_r (List.mem_of_getElem? (l := tables_1_2) (i := 63) (by decide +kernel)) rfl
theorem mw_2_64 : Cond.code ⟨"StepMapModel", "slot", "(I)I"⟩ prog_4_method_23_code 3 (some .int) ∈ wgood := mw_r (List.mem_of_getElem? (l := tables_1_2) (i := 64) (by decide +kernel)) rfl
theorem mw_2_65 : Cond.methodLink "StepMapLaw" 65 ⟨"StepMapModel", "cursor", "()I"⟩ ∈ wgood := mw_r (List.mem_of_getElem? (l := tables_1_2) (i := 65) (by decide +kernel)) rfl
theorem mw_2_66 : Cond.instanceMethod ⟨"StepMapModel", "cursor", "()I"⟩ ∈ wgood := mw_r (List.mem_of_getElem? (l := tables_1_2) (i := 66) (by decide +kernel)) rfl
theorem mw_2_67 : Cond.selects "StepMapModel" ⟨"StepMapModel", "cursor", "()I"⟩ ⟨"StepMapModel", "cursor", "()I"⟩ ∈ wgood := mw_r (List.mem_of_getElem? (l := tables_1_2) (i := 67) (by decide +kernel)) rfl
theorem mw_2_68 : Cond.code ⟨"StepMapModel", "cursor", "()I"⟩ prog_4_method_24_code 1 (some .int) ∈ wgood := mw_r (List.mem_of_getElem? (l := tables_1_2) (i := 68) (by decide +kernel)) rfl
theorem mws_0 : Cond.selects "StepMap" ⟨"StepMap", "begin", "()V"⟩ ⟨"StepMap", "begin", "()V"⟩ ∈ wgood := mw_of (List.mem_of_getElem? (l := lw_tbl) (i := 0) (by decide +kernel)) rfl
theorem mws_1 : Cond.selects "StepMap$Table" ⟨"StepMap$Table", "next", "(I)I"⟩ ⟨"StepMap$Table", "next", "(I)I"⟩ ∈ wgood := mw_of (List.mem_of_getElem? (l := lw_tbl) (i := 1) (by decide +kernel)) rfl
theorem mws_2 : Cond.selects "StepMap" ⟨"StepMap", "findOld", "(I)I"⟩ ⟨"StepMap", "findOld", "(I)I"⟩ ∈ wgood := mw_of (List.mem_of_getElem? (l := lw_tbl) (i := 2) (by decide +kernel)) rfl
theorem mws_3 : Cond.selects "StepMap" ⟨"StepMap", "isMigrating", "()Z"⟩ ⟨"StepMap", "isMigrating", "()Z"⟩ ∈ wgood := mw_of (List.mem_of_getElem? (l := lw_tbl) (i := 3) (by decide +kernel)) rfl
theorem mws_4 : Cond.selects "StepMap" ⟨"StepMap", "isFull", "()Z"⟩ ⟨"StepMap", "isFull", "()Z"⟩ ∈ wgood := mw_of (List.mem_of_getElem? (l := lw_tbl) (i := 4) (by decide +kernel)) rfl
theorem mws_5 : Cond.selects "StepMap" ⟨"StepMap", "isCrowded", "(I)Z"⟩ ⟨"StepMap", "isCrowded", "(I)Z"⟩ ∈ wgood := mw_of (List.mem_of_getElem? (l := lw_tbl) (i := 5) (by decide +kernel)) rfl
theorem mws_6 : Cond.selects "StepMap" ⟨"StepMap", "settle", "()V"⟩ ⟨"StepMap", "settle", "()V"⟩ ∈ wgood := mw_of (List.mem_of_getElem? (l := lw_tbl) (i := 6) (by decide +kernel)) rfl
theorem mws_7 : Cond.selects "StepMap" ⟨"StepMap", "moveOn", "()V"⟩ ⟨"StepMap", "moveOn", "()V"⟩ ∈ wgood := mw_of (List.mem_of_getElem? (l := lw_tbl) (i := 7) (by decide +kernel)) rfl
theorem mws_8 : Cond.selects "StepMap" ⟨"StepMap", "change", "(I)V"⟩ ⟨"StepMap", "change", "(I)V"⟩ ∈ wgood := mw_of (List.mem_of_getElem? (l := lw_tbl) (i := 8) (by decide +kernel)) rfl
theorem mws_9 : Cond.selects "StepMap" ⟨"StepMap", "end", "()V"⟩ ⟨"StepMap", "end", "()V"⟩ ∈ wgood := mw_of (List.mem_of_getElem? (l := lw_tbl) (i := 9) (by decide +kernel)) rfl
theorem mws_10 : Cond.selects "StepMapModel" ⟨"StepMapModel", "look", "(II)I"⟩ ⟨"StepMapModel", "look", "(II)I"⟩ ∈ wgood := mw_of (List.mem_of_getElem? (l := lw_tbl) (i := 10) (by decide +kernel)) rfl
theorem mws_11 : Cond.selects "StepMapModel" ⟨"StepMapModel", "home", "(II)I"⟩ ⟨"StepMapModel", "home", "(II)I"⟩ ∈ wgood := mw_of (List.mem_of_getElem? (l := lw_tbl) (i := 11) (by decide +kernel)) rfl
theorem mws_12 : Cond.selects "StepMapModel" ⟨"StepMapModel", "at", "(II)I"⟩ ⟨"StepMapModel", "at", "(II)I"⟩ ∈ wgood := mw_of (List.mem_of_getElem? (l := lw_tbl) (i := 12) (by decide +kernel)) rfl
theorem mws_13 : Cond.selects "StepMapModel" ⟨"StepMapModel", "behind", "(II)I"⟩ ⟨"StepMapModel", "behind", "(II)I"⟩ ∈ wgood := mw_of (List.mem_of_getElem? (l := lw_tbl) (i := 13) (by decide +kernel)) rfl
theorem mws_14 : Cond.selects "StepMapModel" ⟨"StepMapModel", "isFull", "()Z"⟩ ⟨"StepMapModel", "isFull", "()Z"⟩ ∈ wgood := mw_of (List.mem_of_getElem? (l := lw_tbl) (i := 14) (by decide +kernel)) rfl
theorem mws_15 : Cond.selects "StepMapModel" ⟨"StepMapModel", "lay", "(IIII)V"⟩ ⟨"StepMapModel", "lay", "(IIII)V"⟩ ∈ wgood := mw_of (List.mem_of_getElem? (l := lw_tbl) (i := 15) (by decide +kernel)) rfl
theorem mws_16 : Cond.selects "StepMapModel" ⟨"StepMapModel", "settle", "()V"⟩ ⟨"StepMapModel", "settle", "()V"⟩ ∈ wgood := mw_of (List.mem_of_getElem? (l := lw_tbl) (i := 16) (by decide +kernel)) rfl
theorem mws_17 : Cond.selects "StepMapModel" ⟨"StepMapModel", "moveSome", "()V"⟩ ⟨"StepMapModel", "moveSome", "()V"⟩ ∈ wgood := mw_of (List.mem_of_getElem? (l := lw_tbl) (i := 17) (by decide +kernel)) rfl
theorem mws_18 : Cond.selects "StepMapModel" ⟨"StepMapModel", "become", "(I)V"⟩ ⟨"StepMapModel", "become", "(I)V"⟩ ∈ wgood := mw_of (List.mem_of_getElem? (l := lw_tbl) (i := 18) (by decide +kernel)) rfl
theorem mws_19 : Cond.selects "StepMapModel" ⟨"StepMapModel", "find", "(I)I"⟩ ⟨"StepMapModel", "find", "(I)I"⟩ ∈ wgood := mw_of (List.mem_of_getElem? (l := lw_tbl) (i := 19) (by decide +kernel)) rfl
theorem mws_20 : Cond.selects "StepMapModel" ⟨"StepMapModel", "free", "(I)V"⟩ ⟨"StepMapModel", "free", "(I)V"⟩ ∈ wgood := mw_of (List.mem_of_getElem? (l := lw_tbl) (i := 20) (by decide +kernel)) rfl
theorem mws_21 : Cond.selects "StepMapModel" ⟨"StepMapModel", "steps", "(II)I"⟩ ⟨"StepMapModel", "steps", "(II)I"⟩ ∈ wgood := mw_of (List.mem_of_getElem? (l := lw_tbl) (i := 21) (by decide +kernel)) rfl
theorem i_M : ∀ w ∈ u_ws "StepMap" F_M 6, w ∈ wgood := by
  have h : ∀ w ∈ u_ws "StepMap" F_M 6, w ∈ lw_tbl ∧ goodWord w = true := by decide +kernel
  exact fun w hw => mw_of (h w hw).1 (h w hw).2
theorem i_T : ∀ w ∈ u_ws "StepMap$Table" F_T 5, w ∈ wgood := by
  have h : ∀ w ∈ u_ws "StepMap$Table" F_T 5, w ∈ lw_tbl ∧ goodWord w = true := by decide +kernel
  exact fun w hw => mw_of (h w hw).1 (h w hw).2
theorem i_N : ∀ w ∈ u_ws "StepMapModel" F_N 12, w ∈ wgood := by
  have h : ∀ w ∈ u_ws "StepMapModel" F_N 12, w ∈ lw_tbl ∧ goodWord w = true := by decide +kernel
  exact fun w hw => mw_of (h w hw).1 (h w hw).2
-- methods
abbrev y_M_init : MethodName := ⟨"StepMap", "<init>", "(I)V"⟩
abbrev b_M_init : ByteArray := prog_1_method_2_code
abbrev y_O_init : MethodName := ⟨"java/lang/Object", "<init>", "()V"⟩
abbrev b_O_init : ByteArray := object_method_1_code
abbrev y_J_min : MethodName := ⟨"java/lang/Math", "min", "(II)I"⟩
abbrev b_J_min : ByteArray := prog_5_method_69_code
abbrev y_T_init : MethodName := ⟨"StepMap$Table", "<init>", "(I)V"⟩
abbrev b_T_init : ByteArray := prog_2_method_1_code
abbrev y_T_clear : MethodName := ⟨"StepMap$Table", "clear", "(I)V"⟩
abbrev b_T_clear : ByteArray := prog_2_method_2_code
abbrev y_M_put : MethodName := ⟨"StepMap", "put", "(II)I"⟩
abbrev b_M_put : ByteArray := prog_1_method_12_code
abbrev y_M_begin : MethodName := ⟨"StepMap", "begin", "()V"⟩
abbrev b_M_begin : ByteArray := prog_1_method_4_code
abbrev y_T_find : MethodName := ⟨"StepMap$Table", "find", "(I)I"⟩
abbrev b_T_find : ByteArray := prog_2_method_5_code
abbrev y_T_home : MethodName := ⟨"StepMap$Table", "home", "(I)I"⟩
abbrev b_T_home : ByteArray := prog_2_method_3_code
abbrev y_M_mix : MethodName := ⟨"StepMap", "mix", "(I)I"⟩
abbrev b_M_mix : ByteArray := prog_1_method_1_code
abbrev y_T_next : MethodName := ⟨"StepMap$Table", "next", "(I)I"⟩
abbrev b_T_next : ByteArray := prog_2_method_4_code
abbrev y_T_holds : MethodName := ⟨"StepMap$Table", "holds", "(I)Z"⟩
abbrev b_T_holds : ByteArray := prog_2_method_6_code
abbrev y_M_findOld : MethodName := ⟨"StepMap", "findOld", "(I)I"⟩
abbrev b_M_findOld : ByteArray := prog_1_method_6_code
abbrev y_M_isMigrating : MethodName := ⟨"StepMap", "isMigrating", "()Z"⟩
abbrev b_M_isMigrating : ByteArray := prog_1_method_3_code
abbrev y_M_isFull : MethodName := ⟨"StepMap", "isFull", "()Z"⟩
abbrev b_M_isFull : ByteArray := prog_1_method_11_code
abbrev y_M_isCrowded : MethodName := ⟨"StepMap", "isCrowded", "(I)Z"⟩
abbrev b_M_isCrowded : ByteArray := prog_1_method_8_code
abbrev y_T_put : MethodName := ⟨"StepMap$Table", "put", "(III)V"⟩
abbrev b_T_put : ByteArray := prog_2_method_7_code
abbrev y_M_settle : MethodName := ⟨"StepMap", "settle", "()V"⟩
abbrev b_M_settle : ByteArray := prog_1_method_10_code
abbrev y_M_moveOn : MethodName := ⟨"StepMap", "moveOn", "()V"⟩
abbrev b_M_moveOn : ByteArray := prog_1_method_7_code
abbrev y_M_change : MethodName := ⟨"StepMap", "change", "(I)V"⟩
abbrev b_M_change : ByteArray := prog_1_method_9_code
abbrev y_M_end : MethodName := ⟨"StepMap", "end", "()V"⟩
abbrev b_M_end : ByteArray := prog_1_method_5_code
abbrev y_M_get : MethodName := ⟨"StepMap", "get", "(I)I"⟩
abbrev b_M_get : ByteArray := prog_1_method_13_code
abbrev y_M_has : MethodName := ⟨"StepMap", "has", "(I)Z"⟩
abbrev b_M_has : ByteArray := prog_1_method_14_code
abbrev y_M_remove : MethodName := ⟨"StepMap", "remove", "(I)Z"⟩
abbrev b_M_remove : ByteArray := prog_1_method_15_code
abbrev y_T_closeUp : MethodName := ⟨"StepMap$Table", "closeUp", "(I)V"⟩
abbrev b_T_closeUp : ByteArray := prog_2_method_8_code
abbrev y_M_size : MethodName := ⟨"StepMap", "size", "()I"⟩
abbrev b_M_size : ByteArray := prog_1_method_16_code
abbrev y_M_capacity : MethodName := ⟨"StepMap", "capacity", "()I"⟩
abbrev b_M_capacity : ByteArray := prog_1_method_17_code
abbrev y_M_migrating : MethodName := ⟨"StepMap", "migrating", "()Z"⟩
abbrev b_M_migrating : ByteArray := prog_1_method_18_code
abbrev y_M_lastWork : MethodName := ⟨"StepMap", "lastWork", "()I"⟩
abbrev b_M_lastWork : ByteArray := prog_1_method_19_code
abbrev y_M_slot : MethodName := ⟨"StepMap", "slot", "(I)I"⟩
abbrev b_M_slot : ByteArray := prog_1_method_20_code
abbrev y_M_cursor : MethodName := ⟨"StepMap", "cursor", "()I"⟩
abbrev b_M_cursor : ByteArray := prog_1_method_21_code
abbrev y_L_cell : MethodName := ⟨"StepMapLaw", "cell", "([II)I"⟩
abbrev b_L_cell : ByteArray := method_2_code
abbrev y_N_init : MethodName := ⟨"StepMapModel", "<init>", "(I)V"⟩
abbrev b_N_init : ByteArray := prog_4_method_1_code
abbrev y_N_put : MethodName := ⟨"StepMapModel", "put", "(II)I"⟩
abbrev b_N_put : ByteArray := prog_4_method_13_code
abbrev y_N_look : MethodName := ⟨"StepMapModel", "look", "(II)I"⟩
abbrev b_N_look : ByteArray := prog_4_method_6_code
abbrev y_N_home : MethodName := ⟨"StepMapModel", "home", "(II)I"⟩
abbrev b_N_home : ByteArray := prog_4_method_3_code
abbrev y_N_at : MethodName := ⟨"StepMapModel", "at", "(II)I"⟩
abbrev b_N_at : ByteArray := prog_4_method_5_code
abbrev y_N_behind : MethodName := ⟨"StepMapModel", "behind", "(II)I"⟩
abbrev b_N_behind : ByteArray := prog_4_method_4_code
abbrev y_N_isFull : MethodName := ⟨"StepMapModel", "isFull", "()Z"⟩
abbrev b_N_isFull : ByteArray := prog_4_method_11_code
abbrev y_N_lay : MethodName := ⟨"StepMapModel", "lay", "(IIII)V"⟩
abbrev b_N_lay : ByteArray := prog_4_method_7_code
abbrev y_N_settle : MethodName := ⟨"StepMapModel", "settle", "()V"⟩
abbrev b_N_settle : ByteArray := prog_4_method_10_code
abbrev y_N_moveSome : MethodName := ⟨"StepMapModel", "moveSome", "()V"⟩
abbrev b_N_moveSome : ByteArray := prog_4_method_8_code
abbrev y_N_become : MethodName := ⟨"StepMapModel", "become", "(I)V"⟩
abbrev b_N_become : ByteArray := prog_4_method_9_code
abbrev y_N_get : MethodName := ⟨"StepMapModel", "get", "(I)I"⟩
abbrev b_N_get : ByteArray := prog_4_method_14_code
abbrev y_N_find : MethodName := ⟨"StepMapModel", "find", "(I)I"⟩
abbrev b_N_find : ByteArray := prog_4_method_12_code
abbrev y_N_has : MethodName := ⟨"StepMapModel", "has", "(I)Z"⟩
abbrev b_N_has : ByteArray := prog_4_method_15_code
abbrev y_N_remove : MethodName := ⟨"StepMapModel", "remove", "(I)Z"⟩
abbrev b_N_remove : ByteArray := prog_4_method_18_code
abbrev y_N_free : MethodName := ⟨"StepMapModel", "free", "(I)V"⟩
abbrev b_N_free : ByteArray := prog_4_method_17_code
abbrev y_N_steps : MethodName := ⟨"StepMapModel", "steps", "(II)I"⟩
abbrev b_N_steps : ByteArray := prog_4_method_16_code
abbrev y_N_size : MethodName := ⟨"StepMapModel", "size", "()I"⟩
abbrev b_N_size : ByteArray := prog_4_method_19_code
abbrev y_N_capacity : MethodName := ⟨"StepMapModel", "capacity", "()I"⟩
abbrev b_N_capacity : ByteArray := prog_4_method_20_code
abbrev y_N_migrating : MethodName := ⟨"StepMapModel", "migrating", "()Z"⟩
abbrev b_N_migrating : ByteArray := prog_4_method_21_code
abbrev y_N_lastWork : MethodName := ⟨"StepMapModel", "lastWork", "()I"⟩
abbrev b_N_lastWork : ByteArray := prog_4_method_22_code
abbrev y_N_slot : MethodName := ⟨"StepMapModel", "slot", "(I)I"⟩
abbrev b_N_slot : ByteArray := prog_4_method_23_code
abbrev y_N_cursor : MethodName := ⟨"StepMapModel", "cursor", "()I"⟩
abbrev b_N_cursor : ByteArray := prog_4_method_24_code
end
section
theorem d_T_init_0 : decode b_T_init 0 = .ok (.aload_n 0, 1) := by decide +kernel
theorem d_T_init_1 : decode b_T_init 1 = .ok (.invokespecial 3, 3) := by decide +kernel
theorem d_T_init_4 : decode b_T_init 4 = .ok (.aload_n 0, 1) := by decide +kernel
theorem d_T_init_5 : decode b_T_init 5 = .ok (.iload_n 1, 1) := by decide +kernel
theorem d_T_init_6 : decode b_T_init 6 = .ok (.newarray .int, 2) := by decide +kernel
theorem d_T_init_8 : decode b_T_init 8 = .ok (.putfield 9, 3) := by decide +kernel
theorem d_T_init_11 : decode b_T_init 11 = .ok (.aload_n 0, 1) := by decide +kernel
theorem d_T_init_12 : decode b_T_init 12 = .ok (.iload_n 1, 1) := by decide +kernel
theorem d_T_init_13 : decode b_T_init 13 = .ok (.newarray .int, 2) := by decide +kernel
theorem d_T_init_15 : decode b_T_init 15 = .ok (.putfield 15, 3) := by decide +kernel
theorem d_T_init_18 : decode b_T_init 18 = .ok (.aload_n 0, 1) := by decide +kernel
theorem d_T_init_19 : decode b_T_init 19 = .ok (.iload_n 1, 1) := by decide +kernel
theorem d_T_init_20 : decode b_T_init 20 = .ok (.newarray .int, 2) := by decide +kernel
theorem d_T_init_22 : decode b_T_init 22 = .ok (.putfield 18, 3) := by decide +kernel
theorem d_T_init_25 : decode b_T_init 25 = .ok (.return_, 1) := by decide +kernel
theorem d_T_clear_0 : decode b_T_clear 0 = .ok (.aload_n 0, 1) := by decide +kernel
theorem d_T_clear_1 : decode b_T_clear 1 = .ok (.iload_n 1, 1) := by decide +kernel
theorem d_T_clear_2 : decode b_T_clear 2 = .ok (.putfield 21, 3) := by decide +kernel
theorem d_T_clear_5 : decode b_T_clear 5 = .ok (.iconst 0, 1) := by decide +kernel
theorem d_T_clear_6 : decode b_T_clear 6 = .ok (.istore_n 2, 1) := by decide +kernel
theorem d_T_clear_7 : decode b_T_clear 7 = .ok (.iload_n 2, 1) := by decide +kernel
theorem d_T_clear_8 : decode b_T_clear 8 = .ok (.iload_n 1, 1) := by decide +kernel
theorem d_T_clear_9 : decode b_T_clear 9 = .ok (.if_icmp .ge 16, 3) := by decide +kernel
theorem d_T_clear_12 : decode b_T_clear 12 = .ok (.aload_n 0, 1) := by decide +kernel
theorem d_T_clear_13 : decode b_T_clear 13 = .ok (.getfield 18, 3) := by decide +kernel
theorem d_T_clear_16 : decode b_T_clear 16 = .ok (.iload_n 2, 1) := by decide +kernel
theorem d_T_clear_17 : decode b_T_clear 17 = .ok (.iconst 0, 1) := by decide +kernel
theorem d_T_clear_18 : decode b_T_clear 18 = .ok (.iastore, 1) := by decide +kernel
theorem d_T_clear_19 : decode b_T_clear 19 = .ok (.iinc 2 1, 3) := by decide +kernel
theorem d_T_clear_22 : decode b_T_clear 22 = .ok (.goto (-15), 3) := by decide +kernel
theorem d_T_clear_25 : decode b_T_clear 25 = .ok (.return_, 1) := by decide +kernel
theorem d_T_home_0 : decode b_T_home 0 = .ok (.iload_n 1, 1) := by decide +kernel
theorem d_T_home_1 : decode b_T_home 1 = .ok (.invokestatic 25, 3) := by decide +kernel
theorem d_T_home_4 : decode b_T_home 4 = .ok (.aload_n 0, 1) := by decide +kernel
theorem d_T_home_5 : decode b_T_home 5 = .ok (.getfield 21, 3) := by decide +kernel
theorem d_T_home_8 : decode b_T_home 8 = .ok (.iconst 1, 1) := by decide +kernel
theorem d_T_home_9 : decode b_T_home 9 = .ok (.isub, 1) := by decide +kernel
theorem d_T_home_10 : decode b_T_home 10 = .ok (.iand, 1) := by decide +kernel
theorem d_T_home_11 : decode b_T_home 11 = .ok (.ireturn, 1) := by decide +kernel
theorem d_T_next_0 : decode b_T_next 0 = .ok (.iload_n 1, 1) := by decide +kernel
theorem d_T_next_1 : decode b_T_next 1 = .ok (.iconst 1, 1) := by decide +kernel
theorem d_T_next_2 : decode b_T_next 2 = .ok (.iadd, 1) := by decide +kernel
theorem d_T_next_3 : decode b_T_next 3 = .ok (.aload_n 0, 1) := by decide +kernel
theorem d_T_next_4 : decode b_T_next 4 = .ok (.getfield 21, 3) := by decide +kernel
theorem d_T_next_7 : decode b_T_next 7 = .ok (.iconst 1, 1) := by decide +kernel
theorem d_T_next_8 : decode b_T_next 8 = .ok (.isub, 1) := by decide +kernel
theorem d_T_next_9 : decode b_T_next 9 = .ok (.iand, 1) := by decide +kernel
theorem d_T_next_10 : decode b_T_next 10 = .ok (.ireturn, 1) := by decide +kernel
theorem d_T_find_0 : decode b_T_find 0 = .ok (.aload_n 0, 1) := by decide +kernel
theorem d_T_find_1 : decode b_T_find 1 = .ok (.iload_n 1, 1) := by decide +kernel
theorem d_T_find_2 : decode b_T_find 2 = .ok (.invokevirtual 29, 3) := by decide +kernel
theorem d_T_find_5 : decode b_T_find 5 = .ok (.istore_n 2, 1) := by decide +kernel
theorem d_T_find_6 : decode b_T_find 6 = .ok (.aload_n 0, 1) := by decide +kernel
theorem d_T_find_7 : decode b_T_find 7 = .ok (.dup, 1) := by decide +kernel
theorem d_T_find_8 : decode b_T_find 8 = .ok (.getfield 32, 3) := by decide +kernel
theorem d_T_find_11 : decode b_T_find 11 = .ok (.iconst 1, 1) := by decide +kernel
theorem d_T_find_12 : decode b_T_find 12 = .ok (.iadd, 1) := by decide +kernel
theorem d_T_find_13 : decode b_T_find 13 = .ok (.putfield 32, 3) := by decide +kernel
theorem d_T_find_16 : decode b_T_find 16 = .ok (.aload_n 0, 1) := by decide +kernel
theorem d_T_find_17 : decode b_T_find 17 = .ok (.getfield 18, 3) := by decide +kernel
theorem d_T_find_20 : decode b_T_find 20 = .ok (.iload_n 2, 1) := by decide +kernel
theorem d_T_find_21 : decode b_T_find 21 = .ok (.iaload, 1) := by decide +kernel
theorem d_T_find_22 : decode b_T_find 22 = .ok (.ifCond .eq 42, 3) := by decide +kernel
theorem d_T_find_25 : decode b_T_find 25 = .ok (.aload_n 0, 1) := by decide +kernel
theorem d_T_find_26 : decode b_T_find 26 = .ok (.getfield 18, 3) := by decide +kernel
theorem d_T_find_29 : decode b_T_find 29 = .ok (.iload_n 2, 1) := by decide +kernel
theorem d_T_find_30 : decode b_T_find 30 = .ok (.iaload, 1) := by decide +kernel
theorem d_T_find_31 : decode b_T_find 31 = .ok (.iconst 1, 1) := by decide +kernel
theorem d_T_find_32 : decode b_T_find 32 = .ok (.if_icmp .ne 13, 3) := by decide +kernel
theorem d_T_find_35 : decode b_T_find 35 = .ok (.aload_n 0, 1) := by decide +kernel
theorem d_T_find_36 : decode b_T_find 36 = .ok (.getfield 9, 3) := by decide +kernel
theorem d_T_find_39 : decode b_T_find 39 = .ok (.iload_n 2, 1) := by decide +kernel
theorem d_T_find_40 : decode b_T_find 40 = .ok (.iaload, 1) := by decide +kernel
theorem d_T_find_41 : decode b_T_find 41 = .ok (.iload_n 1, 1) := by decide +kernel
theorem d_T_find_42 : decode b_T_find 42 = .ok (.if_icmp .eq 22, 3) := by decide +kernel
theorem d_T_find_45 : decode b_T_find 45 = .ok (.aload_n 0, 1) := by decide +kernel
theorem d_T_find_46 : decode b_T_find 46 = .ok (.iload_n 2, 1) := by decide +kernel
theorem d_T_find_47 : decode b_T_find 47 = .ok (.invokevirtual 35, 3) := by decide +kernel
theorem d_T_find_50 : decode b_T_find 50 = .ok (.istore_n 2, 1) := by decide +kernel
theorem d_T_find_51 : decode b_T_find 51 = .ok (.aload_n 0, 1) := by decide +kernel
theorem d_T_find_52 : decode b_T_find 52 = .ok (.dup, 1) := by decide +kernel
theorem d_T_find_53 : decode b_T_find 53 = .ok (.getfield 32, 3) := by decide +kernel
theorem d_T_find_56 : decode b_T_find 56 = .ok (.iconst 1, 1) := by decide +kernel
theorem d_T_find_57 : decode b_T_find 57 = .ok (.iadd, 1) := by decide +kernel
theorem d_T_find_58 : decode b_T_find 58 = .ok (.putfield 32, 3) := by decide +kernel
theorem d_T_find_61 : decode b_T_find 61 = .ok (.goto (-45), 3) := by decide +kernel
theorem d_T_find_64 : decode b_T_find 64 = .ok (.iload_n 2, 1) := by decide +kernel
theorem d_T_find_65 : decode b_T_find 65 = .ok (.ireturn, 1) := by decide +kernel
theorem d_T_holds_0 : decode b_T_holds 0 = .ok (.aload_n 0, 1) := by decide +kernel
theorem d_T_holds_1 : decode b_T_holds 1 = .ok (.getfield 18, 3) := by decide +kernel
theorem d_T_holds_4 : decode b_T_holds 4 = .ok (.iload_n 1, 1) := by decide +kernel
theorem d_T_holds_5 : decode b_T_holds 5 = .ok (.iaload, 1) := by decide +kernel
theorem d_T_holds_6 : decode b_T_holds 6 = .ok (.iconst 1, 1) := by decide +kernel
theorem d_T_holds_7 : decode b_T_holds 7 = .ok (.if_icmp .ne 7, 3) := by decide +kernel
theorem d_T_holds_10 : decode b_T_holds 10 = .ok (.iconst 1, 1) := by decide +kernel
theorem d_T_holds_11 : decode b_T_holds 11 = .ok (.goto 4, 3) := by decide +kernel
theorem d_T_holds_14 : decode b_T_holds 14 = .ok (.iconst 0, 1) := by decide +kernel
theorem d_T_holds_15 : decode b_T_holds 15 = .ok (.ireturn, 1) := by decide +kernel
theorem d_T_put_0 : decode b_T_put 0 = .ok (.aload_n 0, 1) := by decide +kernel
theorem d_T_put_1 : decode b_T_put 1 = .ok (.getfield 18, 3) := by decide +kernel
theorem d_T_put_4 : decode b_T_put 4 = .ok (.iload_n 1, 1) := by decide +kernel
theorem d_T_put_5 : decode b_T_put 5 = .ok (.iconst 1, 1) := by decide +kernel
theorem d_T_put_6 : decode b_T_put 6 = .ok (.iastore, 1) := by decide +kernel
theorem d_T_put_7 : decode b_T_put 7 = .ok (.aload_n 0, 1) := by decide +kernel
theorem d_T_put_8 : decode b_T_put 8 = .ok (.getfield 9, 3) := by decide +kernel
theorem d_T_put_11 : decode b_T_put 11 = .ok (.iload_n 1, 1) := by decide +kernel
theorem d_T_put_12 : decode b_T_put 12 = .ok (.iload_n 2, 1) := by decide +kernel
theorem d_T_put_13 : decode b_T_put 13 = .ok (.iastore, 1) := by decide +kernel
theorem d_T_put_14 : decode b_T_put 14 = .ok (.aload_n 0, 1) := by decide +kernel
theorem d_T_put_15 : decode b_T_put 15 = .ok (.getfield 15, 3) := by decide +kernel
theorem d_T_put_18 : decode b_T_put 18 = .ok (.iload_n 1, 1) := by decide +kernel
theorem d_T_put_19 : decode b_T_put 19 = .ok (.iload_n 3, 1) := by decide +kernel
theorem d_T_put_20 : decode b_T_put 20 = .ok (.iastore, 1) := by decide +kernel
theorem d_T_put_21 : decode b_T_put 21 = .ok (.return_, 1) := by decide +kernel
theorem d_T_closeUp_0 : decode b_T_closeUp 0 = .ok (.iload_n 1, 1) := by decide +kernel
theorem d_T_closeUp_1 : decode b_T_closeUp 1 = .ok (.istore_n 2, 1) := by decide +kernel
theorem d_T_closeUp_2 : decode b_T_closeUp 2 = .ok (.aload_n 0, 1) := by decide +kernel
theorem d_T_closeUp_3 : decode b_T_closeUp 3 = .ok (.iload_n 1, 1) := by decide +kernel
theorem d_T_closeUp_4 : decode b_T_closeUp 4 = .ok (.invokevirtual 35, 3) := by decide +kernel
theorem d_T_closeUp_7 : decode b_T_closeUp 7 = .ok (.istore_n 3, 1) := by decide +kernel
theorem d_T_closeUp_8 : decode b_T_closeUp 8 = .ok (.aload_n 0, 1) := by decide +kernel
theorem d_T_closeUp_9 : decode b_T_closeUp 9 = .ok (.dup, 1) := by decide +kernel
theorem d_T_closeUp_10 : decode b_T_closeUp 10 = .ok (.getfield 32, 3) := by decide +kernel
theorem d_T_closeUp_13 : decode b_T_closeUp 13 = .ok (.iconst 1, 1) := by decide +kernel
theorem d_T_closeUp_14 : decode b_T_closeUp 14 = .ok (.iadd, 1) := by decide +kernel
theorem d_T_closeUp_15 : decode b_T_closeUp 15 = .ok (.putfield 32, 3) := by decide +kernel
theorem d_T_closeUp_18 : decode b_T_closeUp 18 = .ok (.aload_n 0, 1) := by decide +kernel
theorem d_T_closeUp_19 : decode b_T_closeUp 19 = .ok (.getfield 18, 3) := by decide +kernel
theorem d_T_closeUp_22 : decode b_T_closeUp 22 = .ok (.iload_n 3, 1) := by decide +kernel
theorem d_T_closeUp_23 : decode b_T_closeUp 23 = .ok (.iaload, 1) := by decide +kernel
theorem d_T_closeUp_24 : decode b_T_closeUp 24 = .ok (.ifCond .eq 77, 3) := by decide +kernel
theorem d_T_closeUp_27 : decode b_T_closeUp 27 = .ok (.iload_n 3, 1) := by decide +kernel
theorem d_T_closeUp_28 : decode b_T_closeUp 28 = .ok (.aload_n 0, 1) := by decide +kernel
theorem d_T_closeUp_29 : decode b_T_closeUp 29 = .ok (.aload_n 0, 1) := by decide +kernel
theorem d_T_closeUp_30 : decode b_T_closeUp 30 = .ok (.getfield 9, 3) := by decide +kernel
theorem d_T_closeUp_33 : decode b_T_closeUp 33 = .ok (.iload_n 3, 1) := by decide +kernel
theorem d_T_closeUp_34 : decode b_T_closeUp 34 = .ok (.iaload, 1) := by decide +kernel
theorem d_T_closeUp_35 : decode b_T_closeUp 35 = .ok (.invokevirtual 29, 3) := by decide +kernel
theorem d_T_closeUp_38 : decode b_T_closeUp 38 = .ok (.isub, 1) := by decide +kernel
theorem d_T_closeUp_39 : decode b_T_closeUp 39 = .ok (.aload_n 0, 1) := by decide +kernel
theorem d_T_closeUp_40 : decode b_T_closeUp 40 = .ok (.getfield 21, 3) := by decide +kernel
theorem d_T_closeUp_43 : decode b_T_closeUp 43 = .ok (.iconst 1, 1) := by decide +kernel
theorem d_T_closeUp_44 : decode b_T_closeUp 44 = .ok (.isub, 1) := by decide +kernel
theorem d_T_closeUp_45 : decode b_T_closeUp 45 = .ok (.iand, 1) := by decide +kernel
theorem d_T_closeUp_46 : decode b_T_closeUp 46 = .ok (.istore 4, 2) := by decide +kernel
theorem d_T_closeUp_48 : decode b_T_closeUp 48 = .ok (.iload 4, 2) := by decide +kernel
theorem d_T_closeUp_50 : decode b_T_closeUp 50 = .ok (.iload_n 3, 1) := by decide +kernel
theorem d_T_closeUp_51 : decode b_T_closeUp 51 = .ok (.iload_n 2, 1) := by decide +kernel
theorem d_T_closeUp_52 : decode b_T_closeUp 52 = .ok (.isub, 1) := by decide +kernel
theorem d_T_closeUp_53 : decode b_T_closeUp 53 = .ok (.aload_n 0, 1) := by decide +kernel
theorem d_T_closeUp_54 : decode b_T_closeUp 54 = .ok (.getfield 21, 3) := by decide +kernel
theorem d_T_closeUp_57 : decode b_T_closeUp 57 = .ok (.iconst 1, 1) := by decide +kernel
theorem d_T_closeUp_58 : decode b_T_closeUp 58 = .ok (.isub, 1) := by decide +kernel
theorem d_T_closeUp_59 : decode b_T_closeUp 59 = .ok (.iand, 1) := by decide +kernel
theorem d_T_closeUp_60 : decode b_T_closeUp 60 = .ok (.if_icmp .lt 22, 3) := by decide +kernel
theorem d_T_closeUp_63 : decode b_T_closeUp 63 = .ok (.aload_n 0, 1) := by decide +kernel
theorem d_T_closeUp_64 : decode b_T_closeUp 64 = .ok (.iload_n 2, 1) := by decide +kernel
theorem d_T_closeUp_65 : decode b_T_closeUp 65 = .ok (.aload_n 0, 1) := by decide +kernel
theorem d_T_closeUp_66 : decode b_T_closeUp 66 = .ok (.getfield 9, 3) := by decide +kernel
theorem d_T_closeUp_69 : decode b_T_closeUp 69 = .ok (.iload_n 3, 1) := by decide +kernel
theorem d_T_closeUp_70 : decode b_T_closeUp 70 = .ok (.iaload, 1) := by decide +kernel
theorem d_T_closeUp_71 : decode b_T_closeUp 71 = .ok (.aload_n 0, 1) := by decide +kernel
theorem d_T_closeUp_72 : decode b_T_closeUp 72 = .ok (.getfield 15, 3) := by decide +kernel
theorem d_T_closeUp_75 : decode b_T_closeUp 75 = .ok (.iload_n 3, 1) := by decide +kernel
theorem d_T_closeUp_76 : decode b_T_closeUp 76 = .ok (.iaload, 1) := by decide +kernel
theorem d_T_closeUp_77 : decode b_T_closeUp 77 = .ok (.invokevirtual 38, 3) := by decide +kernel
theorem d_T_closeUp_80 : decode b_T_closeUp 80 = .ok (.iload_n 3, 1) := by decide +kernel
theorem d_T_closeUp_81 : decode b_T_closeUp 81 = .ok (.istore_n 2, 1) := by decide +kernel
theorem d_T_closeUp_82 : decode b_T_closeUp 82 = .ok (.aload_n 0, 1) := by decide +kernel
theorem d_T_closeUp_83 : decode b_T_closeUp 83 = .ok (.iload_n 3, 1) := by decide +kernel
theorem d_T_closeUp_84 : decode b_T_closeUp 84 = .ok (.invokevirtual 35, 3) := by decide +kernel
theorem d_T_closeUp_87 : decode b_T_closeUp 87 = .ok (.istore_n 3, 1) := by decide +kernel
theorem d_T_closeUp_88 : decode b_T_closeUp 88 = .ok (.aload_n 0, 1) := by decide +kernel
theorem d_T_closeUp_89 : decode b_T_closeUp 89 = .ok (.dup, 1) := by decide +kernel
theorem d_T_closeUp_90 : decode b_T_closeUp 90 = .ok (.getfield 32, 3) := by decide +kernel
theorem d_T_closeUp_93 : decode b_T_closeUp 93 = .ok (.iconst 1, 1) := by decide +kernel
theorem d_T_closeUp_94 : decode b_T_closeUp 94 = .ok (.iadd, 1) := by decide +kernel
theorem d_T_closeUp_95 : decode b_T_closeUp 95 = .ok (.putfield 32, 3) := by decide +kernel
theorem d_T_closeUp_98 : decode b_T_closeUp 98 = .ok (.goto (-80), 3) := by decide +kernel
theorem d_T_closeUp_101 : decode b_T_closeUp 101 = .ok (.aload_n 0, 1) := by decide +kernel
theorem d_T_closeUp_102 : decode b_T_closeUp 102 = .ok (.getfield 18, 3) := by decide +kernel
theorem d_T_closeUp_105 : decode b_T_closeUp 105 = .ok (.iload_n 2, 1) := by decide +kernel
theorem d_T_closeUp_106 : decode b_T_closeUp 106 = .ok (.iconst 0, 1) := by decide +kernel
theorem d_T_closeUp_107 : decode b_T_closeUp 107 = .ok (.iastore, 1) := by decide +kernel
theorem d_T_closeUp_108 : decode b_T_closeUp 108 = .ok (.return_, 1) := by decide +kernel
theorem d_L_cell_0 : decode b_L_cell 0 = .ok (.iload_n 1, 1) := by decide +kernel
theorem d_L_cell_1 : decode b_L_cell 1 = .ok (.aload_n 0, 1) := by decide +kernel
theorem d_L_cell_2 : decode b_L_cell 2 = .ok (.arraylength, 1) := by decide +kernel
theorem d_L_cell_3 : decode b_L_cell 3 = .ok (.if_icmp .ge 9, 3) := by decide +kernel
theorem d_L_cell_6 : decode b_L_cell 6 = .ok (.aload_n 0, 1) := by decide +kernel
theorem d_L_cell_7 : decode b_L_cell 7 = .ok (.iload_n 1, 1) := by decide +kernel
theorem d_L_cell_8 : decode b_L_cell 8 = .ok (.iaload, 1) := by decide +kernel
theorem d_L_cell_9 : decode b_L_cell 9 = .ok (.goto 4, 3) := by decide +kernel
theorem d_L_cell_12 : decode b_L_cell 12 = .ok (.iconst 0, 1) := by decide +kernel
theorem d_L_cell_13 : decode b_L_cell 13 = .ok (.ireturn, 1) := by decide +kernel
end
section
theorem d_M_mix_0 : decode b_M_mix 0 = .ok (.iload_n 0, 1) := by decide +kernel
theorem d_M_mix_1 : decode b_M_mix 1 = .ok (.ldc 1, 2) := by decide +kernel
theorem d_M_mix_3 : decode b_M_mix 3 = .ok (.imul, 1) := by decide +kernel
theorem d_M_mix_4 : decode b_M_mix 4 = .ok (.istore_n 1, 1) := by decide +kernel
theorem d_M_mix_5 : decode b_M_mix 5 = .ok (.iload_n 1, 1) := by decide +kernel
theorem d_M_mix_6 : decode b_M_mix 6 = .ok (.iload_n 1, 1) := by decide +kernel
theorem d_M_mix_7 : decode b_M_mix 7 = .ok (.bipush 15, 2) := by decide +kernel
theorem d_M_mix_9 : decode b_M_mix 9 = .ok (.iushr, 1) := by decide +kernel
theorem d_M_mix_10 : decode b_M_mix 10 = .ok (.ixor, 1) := by decide +kernel
theorem d_M_mix_11 : decode b_M_mix 11 = .ok (.ireturn, 1) := by decide +kernel
theorem d_M_init_0 : decode b_M_init 0 = .ok (.aload_n 0, 1) := by decide +kernel
theorem d_M_init_1 : decode b_M_init 1 = .ok (.invokespecial 2, 3) := by decide +kernel
theorem d_M_init_4 : decode b_M_init 4 = .ok (.bipush 8, 2) := by decide +kernel
theorem d_M_init_6 : decode b_M_init 6 = .ok (.istore_n 2, 1) := by decide +kernel
theorem d_M_init_7 : decode b_M_init 7 = .ok (.iconst 2, 1) := by decide +kernel
theorem d_M_init_8 : decode b_M_init 8 = .ok (.iload_n 2, 1) := by decide +kernel
theorem d_M_init_9 : decode b_M_init 9 = .ok (.imul, 1) := by decide +kernel
theorem d_M_init_10 : decode b_M_init 10 = .ok (.iload_n 1, 1) := by decide +kernel
theorem d_M_init_11 : decode b_M_init 11 = .ok (.sipush 1024, 3) := by decide +kernel
theorem d_M_init_14 : decode b_M_init 14 = .ok (.invokestatic 10, 3) := by decide +kernel
theorem d_M_init_17 : decode b_M_init 17 = .ok (.if_icmp .gt 10, 3) := by decide +kernel
theorem d_M_init_20 : decode b_M_init 20 = .ok (.iconst 2, 1) := by decide +kernel
theorem d_M_init_21 : decode b_M_init 21 = .ok (.iload_n 2, 1) := by decide +kernel
theorem d_M_init_22 : decode b_M_init 22 = .ok (.imul, 1) := by decide +kernel
theorem d_M_init_23 : decode b_M_init 23 = .ok (.istore_n 2, 1) := by decide +kernel
theorem d_M_init_24 : decode b_M_init 24 = .ok (.goto (-17), 3) := by decide +kernel
theorem d_M_init_27 : decode b_M_init 27 = .ok (.aload_n 0, 1) := by decide +kernel
theorem d_M_init_28 : decode b_M_init 28 = .ok (.iload_n 2, 1) := by decide +kernel
theorem d_M_init_29 : decode b_M_init 29 = .ok (.putfield 16, 3) := by decide +kernel
theorem d_M_init_32 : decode b_M_init 32 = .ok (.aload_n 0, 1) := by decide +kernel
theorem d_M_init_33 : decode b_M_init 33 = .ok (.new 20, 3) := by decide +kernel
theorem d_M_init_36 : decode b_M_init 36 = .ok (.dup, 1) := by decide +kernel
theorem d_M_init_37 : decode b_M_init 37 = .ok (.iload_n 2, 1) := by decide +kernel
theorem d_M_init_38 : decode b_M_init 38 = .ok (.invokespecial 22, 3) := by decide +kernel
theorem d_M_init_41 : decode b_M_init 41 = .ok (.putfield 25, 3) := by decide +kernel
theorem d_M_init_44 : decode b_M_init 44 = .ok (.aload_n 0, 1) := by decide +kernel
theorem d_M_init_45 : decode b_M_init 45 = .ok (.new 20, 3) := by decide +kernel
theorem d_M_init_48 : decode b_M_init 48 = .ok (.dup, 1) := by decide +kernel
theorem d_M_init_49 : decode b_M_init 49 = .ok (.iload_n 2, 1) := by decide +kernel
theorem d_M_init_50 : decode b_M_init 50 = .ok (.invokespecial 22, 3) := by decide +kernel
theorem d_M_init_53 : decode b_M_init 53 = .ok (.putfield 29, 3) := by decide +kernel
theorem d_M_init_56 : decode b_M_init 56 = .ok (.aload_n 0, 1) := by decide +kernel
theorem d_M_init_57 : decode b_M_init 57 = .ok (.getfield 25, 3) := by decide +kernel
theorem d_M_init_60 : decode b_M_init 60 = .ok (.bipush 8, 2) := by decide +kernel
theorem d_M_init_62 : decode b_M_init 62 = .ok (.invokevirtual 32, 3) := by decide +kernel
theorem d_M_init_65 : decode b_M_init 65 = .ok (.return_, 1) := by decide +kernel
theorem d_M_isMigrating_0 : decode b_M_isMigrating 0 = .ok (.aload_n 0, 1) := by decide +kernel
theorem d_M_isMigrating_1 : decode b_M_isMigrating 1 = .ok (.getfield 35, 3) := by decide +kernel
theorem d_M_isMigrating_4 : decode b_M_isMigrating 4 = .ok (.aload_n 0, 1) := by decide +kernel
theorem d_M_isMigrating_5 : decode b_M_isMigrating 5 = .ok (.getfield 29, 3) := by decide +kernel
theorem d_M_isMigrating_8 : decode b_M_isMigrating 8 = .ok (.getfield 38, 3) := by decide +kernel
theorem d_M_isMigrating_11 : decode b_M_isMigrating 11 = .ok (.if_icmp .ge 7, 3) := by decide +kernel
theorem d_M_isMigrating_14 : decode b_M_isMigrating 14 = .ok (.iconst 1, 1) := by decide +kernel
theorem d_M_isMigrating_15 : decode b_M_isMigrating 15 = .ok (.goto 4, 3) := by decide +kernel
theorem d_M_isMigrating_18 : decode b_M_isMigrating 18 = .ok (.iconst 0, 1) := by decide +kernel
theorem d_M_isMigrating_19 : decode b_M_isMigrating 19 = .ok (.ireturn, 1) := by decide +kernel
theorem d_M_begin_0 : decode b_M_begin 0 = .ok (.aload_n 0, 1) := by decide +kernel
theorem d_M_begin_1 : decode b_M_begin 1 = .ok (.getfield 25, 3) := by decide +kernel
theorem d_M_begin_4 : decode b_M_begin 4 = .ok (.iconst 0, 1) := by decide +kernel
theorem d_M_begin_5 : decode b_M_begin 5 = .ok (.putfield 41, 3) := by decide +kernel
theorem d_M_begin_8 : decode b_M_begin 8 = .ok (.aload_n 0, 1) := by decide +kernel
theorem d_M_begin_9 : decode b_M_begin 9 = .ok (.getfield 29, 3) := by decide +kernel
theorem d_M_begin_12 : decode b_M_begin 12 = .ok (.iconst 0, 1) := by decide +kernel
theorem d_M_begin_13 : decode b_M_begin 13 = .ok (.putfield 41, 3) := by decide +kernel
theorem d_M_begin_16 : decode b_M_begin 16 = .ok (.return_, 1) := by decide +kernel
theorem d_M_end_0 : decode b_M_end 0 = .ok (.aload_n 0, 1) := by decide +kernel
theorem d_M_end_1 : decode b_M_end 1 = .ok (.aload_n 0, 1) := by decide +kernel
theorem d_M_end_2 : decode b_M_end 2 = .ok (.getfield 25, 3) := by decide +kernel
theorem d_M_end_5 : decode b_M_end 5 = .ok (.getfield 41, 3) := by decide +kernel
theorem d_M_end_8 : decode b_M_end 8 = .ok (.aload_n 0, 1) := by decide +kernel
theorem d_M_end_9 : decode b_M_end 9 = .ok (.getfield 29, 3) := by decide +kernel
theorem d_M_end_12 : decode b_M_end 12 = .ok (.getfield 41, 3) := by decide +kernel
theorem d_M_end_15 : decode b_M_end 15 = .ok (.iadd, 1) := by decide +kernel
theorem d_M_end_16 : decode b_M_end 16 = .ok (.putfield 44, 3) := by decide +kernel
theorem d_M_end_19 : decode b_M_end 19 = .ok (.return_, 1) := by decide +kernel
theorem d_M_findOld_0 : decode b_M_findOld 0 = .ok (.aload_n 0, 1) := by decide +kernel
theorem d_M_findOld_1 : decode b_M_findOld 1 = .ok (.invokevirtual 47, 3) := by decide +kernel
theorem d_M_findOld_4 : decode b_M_findOld 4 = .ok (.ifCond .ne 5, 3) := by decide +kernel
theorem d_M_findOld_7 : decode b_M_findOld 7 = .ok (.iconst (-1), 1) := by decide +kernel
theorem d_M_findOld_8 : decode b_M_findOld 8 = .ok (.ireturn, 1) := by decide +kernel
theorem d_M_findOld_9 : decode b_M_findOld 9 = .ok (.aload_n 0, 1) := by decide +kernel
theorem d_M_findOld_10 : decode b_M_findOld 10 = .ok (.getfield 29, 3) := by decide +kernel
theorem d_M_findOld_13 : decode b_M_findOld 13 = .ok (.iload_n 1, 1) := by decide +kernel
theorem d_M_findOld_14 : decode b_M_findOld 14 = .ok (.invokevirtual 51, 3) := by decide +kernel
theorem d_M_findOld_17 : decode b_M_findOld 17 = .ok (.istore_n 2, 1) := by decide +kernel
theorem d_M_findOld_18 : decode b_M_findOld 18 = .ok (.aload_n 0, 1) := by decide +kernel
theorem d_M_findOld_19 : decode b_M_findOld 19 = .ok (.getfield 29, 3) := by decide +kernel
theorem d_M_findOld_22 : decode b_M_findOld 22 = .ok (.iload_n 2, 1) := by decide +kernel
theorem d_M_findOld_23 : decode b_M_findOld 23 = .ok (.invokevirtual 55, 3) := by decide +kernel
theorem d_M_findOld_26 : decode b_M_findOld 26 = .ok (.ifCond .eq 7, 3) := by decide +kernel
theorem d_M_findOld_29 : decode b_M_findOld 29 = .ok (.iload_n 2, 1) := by decide +kernel
theorem d_M_findOld_30 : decode b_M_findOld 30 = .ok (.goto 4, 3) := by decide +kernel
theorem d_M_findOld_33 : decode b_M_findOld 33 = .ok (.iconst (-1), 1) := by decide +kernel
theorem d_M_findOld_34 : decode b_M_findOld 34 = .ok (.ireturn, 1) := by decide +kernel
theorem d_M_moveOn_0 : decode b_M_moveOn 0 = .ok (.aload_n 0, 1) := by decide +kernel
theorem d_M_moveOn_1 : decode b_M_moveOn 1 = .ok (.getfield 35, 3) := by decide +kernel
theorem d_M_moveOn_4 : decode b_M_moveOn 4 = .ok (.iconst 4, 1) := by decide +kernel
theorem d_M_moveOn_5 : decode b_M_moveOn 5 = .ok (.iadd, 1) := by decide +kernel
theorem d_M_moveOn_6 : decode b_M_moveOn 6 = .ok (.aload_n 0, 1) := by decide +kernel
theorem d_M_moveOn_7 : decode b_M_moveOn 7 = .ok (.getfield 29, 3) := by decide +kernel
theorem d_M_moveOn_10 : decode b_M_moveOn 10 = .ok (.getfield 38, 3) := by decide +kernel
theorem d_M_moveOn_13 : decode b_M_moveOn 13 = .ok (.invokestatic 10, 3) := by decide +kernel
theorem d_M_moveOn_16 : decode b_M_moveOn 16 = .ok (.istore_n 1, 1) := by decide +kernel
theorem d_M_moveOn_17 : decode b_M_moveOn 17 = .ok (.aload_n 0, 1) := by decide +kernel
theorem d_M_moveOn_18 : decode b_M_moveOn 18 = .ok (.getfield 35, 3) := by decide +kernel
theorem d_M_moveOn_21 : decode b_M_moveOn 21 = .ok (.iload_n 1, 1) := by decide +kernel
theorem d_M_moveOn_22 : decode b_M_moveOn 22 = .ok (.if_icmp .ge 108, 3) := by decide +kernel
theorem d_M_moveOn_25 : decode b_M_moveOn 25 = .ok (.aload_n 0, 1) := by decide +kernel
theorem d_M_moveOn_26 : decode b_M_moveOn 26 = .ok (.getfield 29, 3) := by decide +kernel
theorem d_M_moveOn_29 : decode b_M_moveOn 29 = .ok (.dup, 1) := by decide +kernel
theorem d_M_moveOn_30 : decode b_M_moveOn 30 = .ok (.getfield 41, 3) := by decide +kernel
theorem d_M_moveOn_33 : decode b_M_moveOn 33 = .ok (.iconst 1, 1) := by decide +kernel
theorem d_M_moveOn_34 : decode b_M_moveOn 34 = .ok (.iadd, 1) := by decide +kernel
theorem d_M_moveOn_35 : decode b_M_moveOn 35 = .ok (.putfield 41, 3) := by decide +kernel
theorem d_M_moveOn_38 : decode b_M_moveOn 38 = .ok (.aload_n 0, 1) := by decide +kernel
theorem d_M_moveOn_39 : decode b_M_moveOn 39 = .ok (.getfield 29, 3) := by decide +kernel
theorem d_M_moveOn_42 : decode b_M_moveOn 42 = .ok (.aload_n 0, 1) := by decide +kernel
theorem d_M_moveOn_43 : decode b_M_moveOn 43 = .ok (.getfield 35, 3) := by decide +kernel
theorem d_M_moveOn_46 : decode b_M_moveOn 46 = .ok (.invokevirtual 55, 3) := by decide +kernel
theorem d_M_moveOn_49 : decode b_M_moveOn 49 = .ok (.ifCond .eq 68, 3) := by decide +kernel
theorem d_M_moveOn_52 : decode b_M_moveOn 52 = .ok (.aload_n 0, 1) := by decide +kernel
theorem d_M_moveOn_53 : decode b_M_moveOn 53 = .ok (.getfield 25, 3) := by decide +kernel
theorem d_M_moveOn_56 : decode b_M_moveOn 56 = .ok (.aload_n 0, 1) := by decide +kernel
theorem d_M_moveOn_57 : decode b_M_moveOn 57 = .ok (.getfield 29, 3) := by decide +kernel
theorem d_M_moveOn_60 : decode b_M_moveOn 60 = .ok (.getfield 59, 3) := by decide +kernel
theorem d_M_moveOn_63 : decode b_M_moveOn 63 = .ok (.aload_n 0, 1) := by decide +kernel
theorem d_M_moveOn_64 : decode b_M_moveOn 64 = .ok (.getfield 35, 3) := by decide +kernel
theorem d_M_moveOn_67 : decode b_M_moveOn 67 = .ok (.iaload, 1) := by decide +kernel
theorem d_M_moveOn_68 : decode b_M_moveOn 68 = .ok (.invokevirtual 51, 3) := by decide +kernel
theorem d_M_moveOn_71 : decode b_M_moveOn 71 = .ok (.istore_n 2, 1) := by decide +kernel
theorem d_M_moveOn_72 : decode b_M_moveOn 72 = .ok (.aload_n 0, 1) := by decide +kernel
theorem d_M_moveOn_73 : decode b_M_moveOn 73 = .ok (.getfield 25, 3) := by decide +kernel
theorem d_M_moveOn_76 : decode b_M_moveOn 76 = .ok (.iload_n 2, 1) := by decide +kernel
theorem d_M_moveOn_77 : decode b_M_moveOn 77 = .ok (.aload_n 0, 1) := by decide +kernel
theorem d_M_moveOn_78 : decode b_M_moveOn 78 = .ok (.getfield 29, 3) := by decide +kernel
theorem d_M_moveOn_81 : decode b_M_moveOn 81 = .ok (.getfield 59, 3) := by decide +kernel
theorem d_M_moveOn_84 : decode b_M_moveOn 84 = .ok (.aload_n 0, 1) := by decide +kernel
theorem d_M_moveOn_85 : decode b_M_moveOn 85 = .ok (.getfield 35, 3) := by decide +kernel
theorem d_M_moveOn_88 : decode b_M_moveOn 88 = .ok (.iaload, 1) := by decide +kernel
theorem d_M_moveOn_89 : decode b_M_moveOn 89 = .ok (.aload_n 0, 1) := by decide +kernel
theorem d_M_moveOn_90 : decode b_M_moveOn 90 = .ok (.getfield 29, 3) := by decide +kernel
theorem d_M_moveOn_93 : decode b_M_moveOn 93 = .ok (.getfield 63, 3) := by decide +kernel
theorem d_M_moveOn_96 : decode b_M_moveOn 96 = .ok (.aload_n 0, 1) := by decide +kernel
theorem d_M_moveOn_97 : decode b_M_moveOn 97 = .ok (.getfield 35, 3) := by decide +kernel
theorem d_M_moveOn_100 : decode b_M_moveOn 100 = .ok (.iaload, 1) := by decide +kernel
theorem d_M_moveOn_101 : decode b_M_moveOn 101 = .ok (.invokevirtual 66, 3) := by decide +kernel
theorem d_M_moveOn_104 : decode b_M_moveOn 104 = .ok (.aload_n 0, 1) := by decide +kernel
theorem d_M_moveOn_105 : decode b_M_moveOn 105 = .ok (.getfield 29, 3) := by decide +kernel
theorem d_M_moveOn_108 : decode b_M_moveOn 108 = .ok (.getfield 70, 3) := by decide +kernel
theorem d_M_moveOn_111 : decode b_M_moveOn 111 = .ok (.aload_n 0, 1) := by decide +kernel
theorem d_M_moveOn_112 : decode b_M_moveOn 112 = .ok (.getfield 35, 3) := by decide +kernel
theorem d_M_moveOn_115 : decode b_M_moveOn 115 = .ok (.iconst 2, 1) := by decide +kernel
theorem d_M_moveOn_116 : decode b_M_moveOn 116 = .ok (.iastore, 1) := by decide +kernel
theorem d_M_moveOn_117 : decode b_M_moveOn 117 = .ok (.aload_n 0, 1) := by decide +kernel
theorem d_M_moveOn_118 : decode b_M_moveOn 118 = .ok (.dup, 1) := by decide +kernel
theorem d_M_moveOn_119 : decode b_M_moveOn 119 = .ok (.getfield 35, 3) := by decide +kernel
theorem d_M_moveOn_122 : decode b_M_moveOn 122 = .ok (.iconst 1, 1) := by decide +kernel
theorem d_M_moveOn_123 : decode b_M_moveOn 123 = .ok (.iadd, 1) := by decide +kernel
theorem d_M_moveOn_124 : decode b_M_moveOn 124 = .ok (.putfield 35, 3) := by decide +kernel
theorem d_M_moveOn_127 : decode b_M_moveOn 127 = .ok (.goto (-110), 3) := by decide +kernel
theorem d_M_moveOn_130 : decode b_M_moveOn 130 = .ok (.aload_n 0, 1) := by decide +kernel
theorem d_M_moveOn_131 : decode b_M_moveOn 131 = .ok (.getfield 35, 3) := by decide +kernel
theorem d_M_moveOn_134 : decode b_M_moveOn 134 = .ok (.aload_n 0, 1) := by decide +kernel
theorem d_M_moveOn_135 : decode b_M_moveOn 135 = .ok (.getfield 29, 3) := by decide +kernel
theorem d_M_moveOn_138 : decode b_M_moveOn 138 = .ok (.getfield 38, 3) := by decide +kernel
theorem d_M_moveOn_141 : decode b_M_moveOn 141 = .ok (.if_icmp .ne 16, 3) := by decide +kernel
theorem d_M_moveOn_144 : decode b_M_moveOn 144 = .ok (.aload_n 0, 1) := by decide +kernel
theorem d_M_moveOn_145 : decode b_M_moveOn 145 = .ok (.getfield 29, 3) := by decide +kernel
theorem d_M_moveOn_148 : decode b_M_moveOn 148 = .ok (.iconst 0, 1) := by decide +kernel
theorem d_M_moveOn_149 : decode b_M_moveOn 149 = .ok (.putfield 38, 3) := by decide +kernel
theorem d_M_moveOn_152 : decode b_M_moveOn 152 = .ok (.aload_n 0, 1) := by decide +kernel
theorem d_M_moveOn_153 : decode b_M_moveOn 153 = .ok (.iconst 0, 1) := by decide +kernel
theorem d_M_moveOn_154 : decode b_M_moveOn 154 = .ok (.putfield 35, 3) := by decide +kernel
theorem d_M_moveOn_157 : decode b_M_moveOn 157 = .ok (.return_, 1) := by decide +kernel
theorem d_M_isCrowded_0 : decode b_M_isCrowded 0 = .ok (.iconst 4, 1) := by decide +kernel
theorem d_M_isCrowded_1 : decode b_M_isCrowded 1 = .ok (.iload_n 1, 1) := by decide +kernel
theorem d_M_isCrowded_2 : decode b_M_isCrowded 2 = .ok (.imul, 1) := by decide +kernel
theorem d_M_isCrowded_3 : decode b_M_isCrowded 3 = .ok (.iconst 3, 1) := by decide +kernel
theorem d_M_isCrowded_4 : decode b_M_isCrowded 4 = .ok (.aload_n 0, 1) := by decide +kernel
theorem d_M_isCrowded_5 : decode b_M_isCrowded 5 = .ok (.getfield 25, 3) := by decide +kernel
theorem d_M_isCrowded_8 : decode b_M_isCrowded 8 = .ok (.getfield 38, 3) := by decide +kernel
theorem d_M_isCrowded_11 : decode b_M_isCrowded 11 = .ok (.imul, 1) := by decide +kernel
theorem d_M_isCrowded_12 : decode b_M_isCrowded 12 = .ok (.if_icmp .lt 7, 3) := by decide +kernel
theorem d_M_isCrowded_15 : decode b_M_isCrowded 15 = .ok (.iconst 1, 1) := by decide +kernel
theorem d_M_isCrowded_16 : decode b_M_isCrowded 16 = .ok (.goto 4, 3) := by decide +kernel
theorem d_M_isCrowded_19 : decode b_M_isCrowded 19 = .ok (.iconst 0, 1) := by decide +kernel
theorem d_M_isCrowded_20 : decode b_M_isCrowded 20 = .ok (.ireturn, 1) := by decide +kernel
theorem d_M_change_0 : decode b_M_change 0 = .ok (.aload_n 0, 1) := by decide +kernel
theorem d_M_change_1 : decode b_M_change 1 = .ok (.getfield 29, 3) := by decide +kernel
theorem d_M_change_4 : decode b_M_change 4 = .ok (.astore_n 2, 1) := by decide +kernel
theorem d_M_change_5 : decode b_M_change 5 = .ok (.aload_n 0, 1) := by decide +kernel
theorem d_M_change_6 : decode b_M_change 6 = .ok (.aload_n 0, 1) := by decide +kernel
theorem d_M_change_7 : decode b_M_change 7 = .ok (.getfield 25, 3) := by decide +kernel
theorem d_M_change_10 : decode b_M_change 10 = .ok (.putfield 29, 3) := by decide +kernel
theorem d_M_change_13 : decode b_M_change 13 = .ok (.aload_n 0, 1) := by decide +kernel
theorem d_M_change_14 : decode b_M_change 14 = .ok (.aload_n 2, 1) := by decide +kernel
theorem d_M_change_15 : decode b_M_change 15 = .ok (.putfield 25, 3) := by decide +kernel
theorem d_M_change_18 : decode b_M_change 18 = .ok (.aload_n 0, 1) := by decide +kernel
theorem d_M_change_19 : decode b_M_change 19 = .ok (.getfield 25, 3) := by decide +kernel
theorem d_M_change_22 : decode b_M_change 22 = .ok (.iload_n 1, 1) := by decide +kernel
theorem d_M_change_23 : decode b_M_change 23 = .ok (.invokevirtual 32, 3) := by decide +kernel
theorem d_M_change_26 : decode b_M_change 26 = .ok (.aload_n 0, 1) := by decide +kernel
theorem d_M_change_27 : decode b_M_change 27 = .ok (.iconst 0, 1) := by decide +kernel
theorem d_M_change_28 : decode b_M_change 28 = .ok (.putfield 35, 3) := by decide +kernel
theorem d_M_change_31 : decode b_M_change 31 = .ok (.return_, 1) := by decide +kernel
theorem d_M_settle_0 : decode b_M_settle 0 = .ok (.aload_n 0, 1) := by decide +kernel
theorem d_M_settle_1 : decode b_M_settle 1 = .ok (.invokevirtual 47, 3) := by decide +kernel
theorem d_M_settle_4 : decode b_M_settle 4 = .ok (.ifCond .eq 7, 3) := by decide +kernel
theorem d_M_settle_7 : decode b_M_settle 7 = .ok (.aload_n 0, 1) := by decide +kernel
theorem d_M_settle_8 : decode b_M_settle 8 = .ok (.invokevirtual 73, 3) := by decide +kernel
theorem d_M_settle_11 : decode b_M_settle 11 = .ok (.aload_n 0, 1) := by decide +kernel
theorem d_M_settle_12 : decode b_M_settle 12 = .ok (.invokevirtual 47, 3) := by decide +kernel
theorem d_M_settle_15 : decode b_M_settle 15 = .ok (.ifCond .eq 4, 3) := by decide +kernel
theorem d_M_settle_18 : decode b_M_settle 18 = .ok (.return_, 1) := by decide +kernel
theorem d_M_settle_19 : decode b_M_settle 19 = .ok (.aload_n 0, 1) := by decide +kernel
theorem d_M_settle_20 : decode b_M_settle 20 = .ok (.aload_n 0, 1) := by decide +kernel
theorem d_M_settle_21 : decode b_M_settle 21 = .ok (.getfield 76, 3) := by decide +kernel
theorem d_M_settle_24 : decode b_M_settle 24 = .ok (.invokevirtual 79, 3) := by decide +kernel
theorem d_M_settle_27 : decode b_M_settle 27 = .ok (.ifCond .eq 19, 3) := by decide +kernel
theorem d_M_settle_30 : decode b_M_settle 30 = .ok (.aload_n 0, 1) := by decide +kernel
theorem d_M_settle_31 : decode b_M_settle 31 = .ok (.iconst 2, 1) := by decide +kernel
theorem d_M_settle_32 : decode b_M_settle 32 = .ok (.aload_n 0, 1) := by decide +kernel
theorem d_M_settle_33 : decode b_M_settle 33 = .ok (.getfield 25, 3) := by decide +kernel
theorem d_M_settle_36 : decode b_M_settle 36 = .ok (.getfield 38, 3) := by decide +kernel
theorem d_M_settle_39 : decode b_M_settle 39 = .ok (.imul, 1) := by decide +kernel
theorem d_M_settle_40 : decode b_M_settle 40 = .ok (.invokevirtual 82, 3) := by decide +kernel
theorem d_M_settle_43 : decode b_M_settle 43 = .ok (.goto 45, 3) := by decide +kernel
theorem d_M_settle_46 : decode b_M_settle 46 = .ok (.bipush 8, 2) := by decide +kernel
theorem d_M_settle_48 : decode b_M_settle 48 = .ok (.aload_n 0, 1) := by decide +kernel
theorem d_M_settle_49 : decode b_M_settle 49 = .ok (.getfield 76, 3) := by decide +kernel
theorem d_M_settle_52 : decode b_M_settle 52 = .ok (.imul, 1) := by decide +kernel
theorem d_M_settle_53 : decode b_M_settle 53 = .ok (.aload_n 0, 1) := by decide +kernel
theorem d_M_settle_54 : decode b_M_settle 54 = .ok (.getfield 25, 3) := by decide +kernel
theorem d_M_settle_57 : decode b_M_settle 57 = .ok (.getfield 38, 3) := by decide +kernel
theorem d_M_settle_60 : decode b_M_settle 60 = .ok (.if_icmp .gt 28, 3) := by decide +kernel
theorem d_M_settle_63 : decode b_M_settle 63 = .ok (.aload_n 0, 1) := by decide +kernel
theorem d_M_settle_64 : decode b_M_settle 64 = .ok (.getfield 25, 3) := by decide +kernel
theorem d_M_settle_67 : decode b_M_settle 67 = .ok (.getfield 38, 3) := by decide +kernel
theorem d_M_settle_70 : decode b_M_settle 70 = .ok (.bipush 8, 2) := by decide +kernel
theorem d_M_settle_72 : decode b_M_settle 72 = .ok (.if_icmp .le 16, 3) := by decide +kernel
theorem d_M_settle_75 : decode b_M_settle 75 = .ok (.aload_n 0, 1) := by decide +kernel
theorem d_M_settle_76 : decode b_M_settle 76 = .ok (.aload_n 0, 1) := by decide +kernel
theorem d_M_settle_77 : decode b_M_settle 77 = .ok (.getfield 25, 3) := by decide +kernel
theorem d_M_settle_80 : decode b_M_settle 80 = .ok (.getfield 38, 3) := by decide +kernel
theorem d_M_settle_83 : decode b_M_settle 83 = .ok (.iconst 2, 1) := by decide +kernel
theorem d_M_settle_84 : decode b_M_settle 84 = .ok (.idiv, 1) := by decide +kernel
theorem d_M_settle_85 : decode b_M_settle 85 = .ok (.invokevirtual 82, 3) := by decide +kernel
theorem d_M_settle_88 : decode b_M_settle 88 = .ok (.return_, 1) := by decide +kernel
theorem d_M_isFull_0 : decode b_M_isFull 0 = .ok (.aload_n 0, 1) := by decide +kernel
theorem d_M_isFull_1 : decode b_M_isFull 1 = .ok (.getfield 29, 3) := by decide +kernel
theorem d_M_isFull_4 : decode b_M_isFull 4 = .ok (.getfield 38, 3) := by decide +kernel
theorem d_M_isFull_7 : decode b_M_isFull 7 = .ok (.aload_n 0, 1) := by decide +kernel
theorem d_M_isFull_8 : decode b_M_isFull 8 = .ok (.getfield 35, 3) := by decide +kernel
theorem d_M_isFull_11 : decode b_M_isFull 11 = .ok (.isub, 1) := by decide +kernel
theorem d_M_isFull_12 : decode b_M_isFull 12 = .ok (.iconst 4, 1) := by decide +kernel
theorem d_M_isFull_13 : decode b_M_isFull 13 = .ok (.if_icmp .le 7, 3) := by decide +kernel
theorem d_M_isFull_16 : decode b_M_isFull 16 = .ok (.iconst 1, 1) := by decide +kernel
theorem d_M_isFull_17 : decode b_M_isFull 17 = .ok (.goto 4, 3) := by decide +kernel
theorem d_M_isFull_20 : decode b_M_isFull 20 = .ok (.iconst 0, 1) := by decide +kernel
theorem d_M_isFull_21 : decode b_M_isFull 21 = .ok (.istore_n 1, 1) := by decide +kernel
theorem d_M_isFull_22 : decode b_M_isFull 22 = .ok (.iload_n 1, 1) := by decide +kernel
theorem d_M_isFull_23 : decode b_M_isFull 23 = .ok (.ifCond .ne 36, 3) := by decide +kernel
theorem d_M_isFull_26 : decode b_M_isFull 26 = .ok (.aload_n 0, 1) := by decide +kernel
theorem d_M_isFull_27 : decode b_M_isFull 27 = .ok (.aload_n 0, 1) := by decide +kernel
theorem d_M_isFull_28 : decode b_M_isFull 28 = .ok (.getfield 76, 3) := by decide +kernel
theorem d_M_isFull_31 : decode b_M_isFull 31 = .ok (.iconst 1, 1) := by decide +kernel
theorem d_M_isFull_32 : decode b_M_isFull 32 = .ok (.iadd, 1) := by decide +kernel
theorem d_M_isFull_33 : decode b_M_isFull 33 = .ok (.invokevirtual 79, 3) := by decide +kernel
theorem d_M_isFull_36 : decode b_M_isFull 36 = .ok (.ifCond .eq 23, 3) := by decide +kernel
theorem d_M_isFull_39 : decode b_M_isFull 39 = .ok (.iconst 2, 1) := by decide +kernel
theorem d_M_isFull_40 : decode b_M_isFull 40 = .ok (.aload_n 0, 1) := by decide +kernel
theorem d_M_isFull_41 : decode b_M_isFull 41 = .ok (.getfield 25, 3) := by decide +kernel
theorem d_M_isFull_44 : decode b_M_isFull 44 = .ok (.getfield 38, 3) := by decide +kernel
theorem d_M_isFull_47 : decode b_M_isFull 47 = .ok (.imul, 1) := by decide +kernel
theorem d_M_isFull_48 : decode b_M_isFull 48 = .ok (.aload_n 0, 1) := by decide +kernel
theorem d_M_isFull_49 : decode b_M_isFull 49 = .ok (.getfield 16, 3) := by decide +kernel
theorem d_M_isFull_52 : decode b_M_isFull 52 = .ok (.if_icmp .le 7, 3) := by decide +kernel
theorem d_M_isFull_55 : decode b_M_isFull 55 = .ok (.iconst 1, 1) := by decide +kernel
theorem d_M_isFull_56 : decode b_M_isFull 56 = .ok (.goto 4, 3) := by decide +kernel
theorem d_M_isFull_59 : decode b_M_isFull 59 = .ok (.iconst 0, 1) := by decide +kernel
theorem d_M_isFull_60 : decode b_M_isFull 60 = .ok (.ireturn, 1) := by decide +kernel
theorem d_M_put_0 : decode b_M_put 0 = .ok (.aload_n 0, 1) := by decide +kernel
theorem d_M_put_1 : decode b_M_put 1 = .ok (.invokevirtual 85, 3) := by decide +kernel
theorem d_M_put_4 : decode b_M_put 4 = .ok (.aload_n 0, 1) := by decide +kernel
theorem d_M_put_5 : decode b_M_put 5 = .ok (.getfield 25, 3) := by decide +kernel
theorem d_M_put_8 : decode b_M_put 8 = .ok (.iload_n 1, 1) := by decide +kernel
theorem d_M_put_9 : decode b_M_put 9 = .ok (.invokevirtual 51, 3) := by decide +kernel
theorem d_M_put_12 : decode b_M_put 12 = .ok (.istore_n 3, 1) := by decide +kernel
theorem d_M_put_13 : decode b_M_put 13 = .ok (.aload_n 0, 1) := by decide +kernel
theorem d_M_put_14 : decode b_M_put 14 = .ok (.getfield 25, 3) := by decide +kernel
theorem d_M_put_17 : decode b_M_put 17 = .ok (.iload_n 3, 1) := by decide +kernel
theorem d_M_put_18 : decode b_M_put 18 = .ok (.invokevirtual 55, 3) := by decide +kernel
theorem d_M_put_21 : decode b_M_put 21 = .ok (.ifCond .eq 7, 3) := by decide +kernel
theorem d_M_put_24 : decode b_M_put 24 = .ok (.iconst (-1), 1) := by decide +kernel
theorem d_M_put_25 : decode b_M_put 25 = .ok (.goto 8, 3) := by decide +kernel
theorem d_M_put_28 : decode b_M_put 28 = .ok (.aload_n 0, 1) := by decide +kernel
theorem d_M_put_29 : decode b_M_put 29 = .ok (.iload_n 1, 1) := by decide +kernel
theorem d_M_put_30 : decode b_M_put 30 = .ok (.invokevirtual 88, 3) := by decide +kernel
theorem d_M_put_33 : decode b_M_put 33 = .ok (.istore 4, 2) := by decide +kernel
theorem d_M_put_35 : decode b_M_put 35 = .ok (.iconst 0, 1) := by decide +kernel
theorem d_M_put_36 : decode b_M_put 36 = .ok (.istore 5, 2) := by decide +kernel
theorem d_M_put_38 : decode b_M_put 38 = .ok (.aload_n 0, 1) := by decide +kernel
theorem d_M_put_39 : decode b_M_put 39 = .ok (.getfield 25, 3) := by decide +kernel
theorem d_M_put_42 : decode b_M_put 42 = .ok (.iload_n 3, 1) := by decide +kernel
theorem d_M_put_43 : decode b_M_put 43 = .ok (.invokevirtual 55, 3) := by decide +kernel
theorem d_M_put_46 : decode b_M_put 46 = .ok (.ifCond .eq 16, 3) := by decide +kernel
theorem d_M_put_49 : decode b_M_put 49 = .ok (.aload_n 0, 1) := by decide +kernel
theorem d_M_put_50 : decode b_M_put 50 = .ok (.getfield 25, 3) := by decide +kernel
theorem d_M_put_53 : decode b_M_put 53 = .ok (.getfield 63, 3) := by decide +kernel
theorem d_M_put_56 : decode b_M_put 56 = .ok (.iload_n 3, 1) := by decide +kernel
theorem d_M_put_57 : decode b_M_put 57 = .ok (.iload_n 2, 1) := by decide +kernel
theorem d_M_put_58 : decode b_M_put 58 = .ok (.iastore, 1) := by decide +kernel
theorem d_M_put_59 : decode b_M_put 59 = .ok (.goto 60, 3) := by decide +kernel
theorem d_M_put_62 : decode b_M_put 62 = .ok (.iload 4, 2) := by decide +kernel
theorem d_M_put_64 : decode b_M_put 64 = .ok (.ifCond .lt 17, 3) := by decide +kernel
theorem d_M_put_67 : decode b_M_put 67 = .ok (.aload_n 0, 1) := by decide +kernel
theorem d_M_put_68 : decode b_M_put 68 = .ok (.getfield 29, 3) := by decide +kernel
theorem d_M_put_71 : decode b_M_put 71 = .ok (.getfield 63, 3) := by decide +kernel
theorem d_M_put_74 : decode b_M_put 74 = .ok (.iload 4, 2) := by decide +kernel
theorem d_M_put_76 : decode b_M_put 76 = .ok (.iload_n 2, 1) := by decide +kernel
theorem d_M_put_77 : decode b_M_put 77 = .ok (.iastore, 1) := by decide +kernel
theorem d_M_put_78 : decode b_M_put 78 = .ok (.goto 41, 3) := by decide +kernel
theorem d_M_put_81 : decode b_M_put 81 = .ok (.aload_n 0, 1) := by decide +kernel
theorem d_M_put_82 : decode b_M_put 82 = .ok (.invokevirtual 91, 3) := by decide +kernel
theorem d_M_put_85 : decode b_M_put 85 = .ok (.ifCond .eq 10, 3) := by decide +kernel
theorem d_M_put_88 : decode b_M_put 88 = .ok (.ldc 94, 2) := by decide +kernel
theorem d_M_put_90 : decode b_M_put 90 = .ok (.istore 5, 2) := by decide +kernel
theorem d_M_put_92 : decode b_M_put 92 = .ok (.goto 27, 3) := by decide +kernel
theorem d_M_put_95 : decode b_M_put 95 = .ok (.aload_n 0, 1) := by decide +kernel
theorem d_M_put_96 : decode b_M_put 96 = .ok (.getfield 25, 3) := by decide +kernel
theorem d_M_put_99 : decode b_M_put 99 = .ok (.iload_n 3, 1) := by decide +kernel
theorem d_M_put_100 : decode b_M_put 100 = .ok (.iload_n 1, 1) := by decide +kernel
theorem d_M_put_101 : decode b_M_put 101 = .ok (.iload_n 2, 1) := by decide +kernel
theorem d_M_put_102 : decode b_M_put 102 = .ok (.invokevirtual 66, 3) := by decide +kernel
theorem d_M_put_105 : decode b_M_put 105 = .ok (.aload_n 0, 1) := by decide +kernel
theorem d_M_put_106 : decode b_M_put 106 = .ok (.dup, 1) := by decide +kernel
theorem d_M_put_107 : decode b_M_put 107 = .ok (.getfield 76, 3) := by decide +kernel
theorem d_M_put_110 : decode b_M_put 110 = .ok (.iconst 1, 1) := by decide +kernel
theorem d_M_put_111 : decode b_M_put 111 = .ok (.iadd, 1) := by decide +kernel
theorem d_M_put_112 : decode b_M_put 112 = .ok (.putfield 76, 3) := by decide +kernel
theorem d_M_put_115 : decode b_M_put 115 = .ok (.aload_n 0, 1) := by decide +kernel
theorem d_M_put_116 : decode b_M_put 116 = .ok (.invokevirtual 95, 3) := by decide +kernel
theorem d_M_put_119 : decode b_M_put 119 = .ok (.aload_n 0, 1) := by decide +kernel
theorem d_M_put_120 : decode b_M_put 120 = .ok (.invokevirtual 98, 3) := by decide +kernel
theorem d_M_put_123 : decode b_M_put 123 = .ok (.iload 5, 2) := by decide +kernel
theorem d_M_put_125 : decode b_M_put 125 = .ok (.ireturn, 1) := by decide +kernel
theorem d_M_get_0 : decode b_M_get 0 = .ok (.aload_n 0, 1) := by decide +kernel
theorem d_M_get_1 : decode b_M_get 1 = .ok (.invokevirtual 85, 3) := by decide +kernel
theorem d_M_get_4 : decode b_M_get 4 = .ok (.aload_n 0, 1) := by decide +kernel
theorem d_M_get_5 : decode b_M_get 5 = .ok (.getfield 25, 3) := by decide +kernel
theorem d_M_get_8 : decode b_M_get 8 = .ok (.iload_n 1, 1) := by decide +kernel
theorem d_M_get_9 : decode b_M_get 9 = .ok (.invokevirtual 51, 3) := by decide +kernel
theorem d_M_get_12 : decode b_M_get 12 = .ok (.istore_n 2, 1) := by decide +kernel
theorem d_M_get_13 : decode b_M_get 13 = .ok (.aload_n 0, 1) := by decide +kernel
theorem d_M_get_14 : decode b_M_get 14 = .ok (.getfield 25, 3) := by decide +kernel
theorem d_M_get_17 : decode b_M_get 17 = .ok (.iload_n 2, 1) := by decide +kernel
theorem d_M_get_18 : decode b_M_get 18 = .ok (.invokevirtual 55, 3) := by decide +kernel
theorem d_M_get_21 : decode b_M_get 21 = .ok (.ifCond .eq 7, 3) := by decide +kernel
theorem d_M_get_24 : decode b_M_get 24 = .ok (.iconst (-1), 1) := by decide +kernel
theorem d_M_get_25 : decode b_M_get 25 = .ok (.goto 8, 3) := by decide +kernel
theorem d_M_get_28 : decode b_M_get 28 = .ok (.aload_n 0, 1) := by decide +kernel
theorem d_M_get_29 : decode b_M_get 29 = .ok (.iload_n 1, 1) := by decide +kernel
theorem d_M_get_30 : decode b_M_get 30 = .ok (.invokevirtual 88, 3) := by decide +kernel
theorem d_M_get_33 : decode b_M_get 33 = .ok (.istore_n 3, 1) := by decide +kernel
theorem d_M_get_34 : decode b_M_get 34 = .ok (.aload_n 0, 1) := by decide +kernel
theorem d_M_get_35 : decode b_M_get 35 = .ok (.invokevirtual 98, 3) := by decide +kernel
theorem d_M_get_38 : decode b_M_get 38 = .ok (.aload_n 0, 1) := by decide +kernel
theorem d_M_get_39 : decode b_M_get 39 = .ok (.getfield 25, 3) := by decide +kernel
theorem d_M_get_42 : decode b_M_get 42 = .ok (.iload_n 2, 1) := by decide +kernel
theorem d_M_get_43 : decode b_M_get 43 = .ok (.invokevirtual 55, 3) := by decide +kernel
theorem d_M_get_46 : decode b_M_get 46 = .ok (.ifCond .eq 15, 3) := by decide +kernel
theorem d_M_get_49 : decode b_M_get 49 = .ok (.aload_n 0, 1) := by decide +kernel
theorem d_M_get_50 : decode b_M_get 50 = .ok (.getfield 25, 3) := by decide +kernel
theorem d_M_get_53 : decode b_M_get 53 = .ok (.getfield 63, 3) := by decide +kernel
theorem d_M_get_56 : decode b_M_get 56 = .ok (.iload_n 2, 1) := by decide +kernel
theorem d_M_get_57 : decode b_M_get 57 = .ok (.iaload, 1) := by decide +kernel
theorem d_M_get_58 : decode b_M_get 58 = .ok (.goto 20, 3) := by decide +kernel
theorem d_M_get_61 : decode b_M_get 61 = .ok (.iload_n 3, 1) := by decide +kernel
theorem d_M_get_62 : decode b_M_get 62 = .ok (.ifCond .ge 7, 3) := by decide +kernel
theorem d_M_get_65 : decode b_M_get 65 = .ok (.iconst 0, 1) := by decide +kernel
theorem d_M_get_66 : decode b_M_get 66 = .ok (.goto 12, 3) := by decide +kernel
theorem d_M_get_69 : decode b_M_get 69 = .ok (.aload_n 0, 1) := by decide +kernel
theorem d_M_get_70 : decode b_M_get 70 = .ok (.getfield 29, 3) := by decide +kernel
theorem d_M_get_73 : decode b_M_get 73 = .ok (.getfield 63, 3) := by decide +kernel
theorem d_M_get_76 : decode b_M_get 76 = .ok (.iload_n 3, 1) := by decide +kernel
theorem d_M_get_77 : decode b_M_get 77 = .ok (.iaload, 1) := by decide +kernel
theorem d_M_get_78 : decode b_M_get 78 = .ok (.ireturn, 1) := by decide +kernel
theorem d_M_has_0 : decode b_M_has 0 = .ok (.aload_n 0, 1) := by decide +kernel
theorem d_M_has_1 : decode b_M_has 1 = .ok (.invokevirtual 85, 3) := by decide +kernel
theorem d_M_has_4 : decode b_M_has 4 = .ok (.aload_n 0, 1) := by decide +kernel
theorem d_M_has_5 : decode b_M_has 5 = .ok (.getfield 25, 3) := by decide +kernel
theorem d_M_has_8 : decode b_M_has 8 = .ok (.aload_n 0, 1) := by decide +kernel
theorem d_M_has_9 : decode b_M_has 9 = .ok (.getfield 25, 3) := by decide +kernel
theorem d_M_has_12 : decode b_M_has 12 = .ok (.iload_n 1, 1) := by decide +kernel
theorem d_M_has_13 : decode b_M_has 13 = .ok (.invokevirtual 51, 3) := by decide +kernel
theorem d_M_has_16 : decode b_M_has 16 = .ok (.invokevirtual 55, 3) := by decide +kernel
theorem d_M_has_19 : decode b_M_has 19 = .ok (.ifCond .ne 11, 3) := by decide +kernel
theorem d_M_has_22 : decode b_M_has 22 = .ok (.aload_n 0, 1) := by decide +kernel
theorem d_M_has_23 : decode b_M_has 23 = .ok (.iload_n 1, 1) := by decide +kernel
theorem d_M_has_24 : decode b_M_has 24 = .ok (.invokevirtual 88, 3) := by decide +kernel
theorem d_M_has_27 : decode b_M_has 27 = .ok (.ifCond .lt 7, 3) := by decide +kernel
theorem d_M_has_30 : decode b_M_has 30 = .ok (.iconst 1, 1) := by decide +kernel
theorem d_M_has_31 : decode b_M_has 31 = .ok (.goto 4, 3) := by decide +kernel
theorem d_M_has_34 : decode b_M_has 34 = .ok (.iconst 0, 1) := by decide +kernel
theorem d_M_has_35 : decode b_M_has 35 = .ok (.istore_n 2, 1) := by decide +kernel
theorem d_M_has_36 : decode b_M_has 36 = .ok (.aload_n 0, 1) := by decide +kernel
theorem d_M_has_37 : decode b_M_has 37 = .ok (.invokevirtual 98, 3) := by decide +kernel
theorem d_M_has_40 : decode b_M_has 40 = .ok (.iload_n 2, 1) := by decide +kernel
theorem d_M_has_41 : decode b_M_has 41 = .ok (.ireturn, 1) := by decide +kernel
theorem d_M_remove_0 : decode b_M_remove 0 = .ok (.aload_n 0, 1) := by decide +kernel
theorem d_M_remove_1 : decode b_M_remove 1 = .ok (.invokevirtual 85, 3) := by decide +kernel
theorem d_M_remove_4 : decode b_M_remove 4 = .ok (.aload_n 0, 1) := by decide +kernel
theorem d_M_remove_5 : decode b_M_remove 5 = .ok (.getfield 25, 3) := by decide +kernel
theorem d_M_remove_8 : decode b_M_remove 8 = .ok (.iload_n 1, 1) := by decide +kernel
theorem d_M_remove_9 : decode b_M_remove 9 = .ok (.invokevirtual 51, 3) := by decide +kernel
theorem d_M_remove_12 : decode b_M_remove 12 = .ok (.istore_n 2, 1) := by decide +kernel
theorem d_M_remove_13 : decode b_M_remove 13 = .ok (.aload_n 0, 1) := by decide +kernel
theorem d_M_remove_14 : decode b_M_remove 14 = .ok (.getfield 25, 3) := by decide +kernel
theorem d_M_remove_17 : decode b_M_remove 17 = .ok (.iload_n 2, 1) := by decide +kernel
theorem d_M_remove_18 : decode b_M_remove 18 = .ok (.invokevirtual 55, 3) := by decide +kernel
theorem d_M_remove_21 : decode b_M_remove 21 = .ok (.ifCond .eq 7, 3) := by decide +kernel
theorem d_M_remove_24 : decode b_M_remove 24 = .ok (.iconst (-1), 1) := by decide +kernel
theorem d_M_remove_25 : decode b_M_remove 25 = .ok (.goto 8, 3) := by decide +kernel
theorem d_M_remove_28 : decode b_M_remove 28 = .ok (.aload_n 0, 1) := by decide +kernel
theorem d_M_remove_29 : decode b_M_remove 29 = .ok (.iload_n 1, 1) := by decide +kernel
theorem d_M_remove_30 : decode b_M_remove 30 = .ok (.invokevirtual 88, 3) := by decide +kernel
theorem d_M_remove_33 : decode b_M_remove 33 = .ok (.istore_n 3, 1) := by decide +kernel
theorem d_M_remove_34 : decode b_M_remove 34 = .ok (.aload_n 0, 1) := by decide +kernel
theorem d_M_remove_35 : decode b_M_remove 35 = .ok (.getfield 25, 3) := by decide +kernel
theorem d_M_remove_38 : decode b_M_remove 38 = .ok (.iload_n 2, 1) := by decide +kernel
theorem d_M_remove_39 : decode b_M_remove 39 = .ok (.invokevirtual 55, 3) := by decide +kernel
theorem d_M_remove_42 : decode b_M_remove 42 = .ok (.ifCond .ne 7, 3) := by decide +kernel
theorem d_M_remove_45 : decode b_M_remove 45 = .ok (.iload_n 3, 1) := by decide +kernel
theorem d_M_remove_46 : decode b_M_remove 46 = .ok (.ifCond .lt 7, 3) := by decide +kernel
theorem d_M_remove_49 : decode b_M_remove 49 = .ok (.iconst 1, 1) := by decide +kernel
theorem d_M_remove_50 : decode b_M_remove 50 = .ok (.goto 4, 3) := by decide +kernel
theorem d_M_remove_53 : decode b_M_remove 53 = .ok (.iconst 0, 1) := by decide +kernel
theorem d_M_remove_54 : decode b_M_remove 54 = .ok (.istore 4, 2) := by decide +kernel
theorem d_M_remove_56 : decode b_M_remove 56 = .ok (.aload_n 0, 1) := by decide +kernel
theorem d_M_remove_57 : decode b_M_remove 57 = .ok (.getfield 25, 3) := by decide +kernel
theorem d_M_remove_60 : decode b_M_remove 60 = .ok (.iload_n 2, 1) := by decide +kernel
theorem d_M_remove_61 : decode b_M_remove 61 = .ok (.invokevirtual 55, 3) := by decide +kernel
theorem d_M_remove_64 : decode b_M_remove 64 = .ok (.ifCond .eq 14, 3) := by decide +kernel
theorem d_M_remove_67 : decode b_M_remove 67 = .ok (.aload_n 0, 1) := by decide +kernel
theorem d_M_remove_68 : decode b_M_remove 68 = .ok (.getfield 25, 3) := by decide +kernel
theorem d_M_remove_71 : decode b_M_remove 71 = .ok (.iload_n 2, 1) := by decide +kernel
theorem d_M_remove_72 : decode b_M_remove 72 = .ok (.invokevirtual 101, 3) := by decide +kernel
theorem d_M_remove_75 : decode b_M_remove 75 = .ok (.goto 18, 3) := by decide +kernel
theorem d_M_remove_78 : decode b_M_remove 78 = .ok (.iload 4, 2) := by decide +kernel
theorem d_M_remove_80 : decode b_M_remove 80 = .ok (.ifCond .eq 13, 3) := by decide +kernel
theorem d_M_remove_83 : decode b_M_remove 83 = .ok (.aload_n 0, 1) := by decide +kernel
theorem d_M_remove_84 : decode b_M_remove 84 = .ok (.getfield 29, 3) := by decide +kernel
theorem d_M_remove_87 : decode b_M_remove 87 = .ok (.getfield 70, 3) := by decide +kernel
theorem d_M_remove_90 : decode b_M_remove 90 = .ok (.iload_n 3, 1) := by decide +kernel
theorem d_M_remove_91 : decode b_M_remove 91 = .ok (.iconst 2, 1) := by decide +kernel
theorem d_M_remove_92 : decode b_M_remove 92 = .ok (.iastore, 1) := by decide +kernel
theorem d_M_remove_93 : decode b_M_remove 93 = .ok (.iload 4, 2) := by decide +kernel
theorem d_M_remove_95 : decode b_M_remove 95 = .ok (.ifCond .eq 17, 3) := by decide +kernel
theorem d_M_remove_98 : decode b_M_remove 98 = .ok (.aload_n 0, 1) := by decide +kernel
theorem d_M_remove_99 : decode b_M_remove 99 = .ok (.dup, 1) := by decide +kernel
theorem d_M_remove_100 : decode b_M_remove 100 = .ok (.getfield 76, 3) := by decide +kernel
theorem d_M_remove_103 : decode b_M_remove 103 = .ok (.iconst 1, 1) := by decide +kernel
theorem d_M_remove_104 : decode b_M_remove 104 = .ok (.isub, 1) := by decide +kernel
theorem d_M_remove_105 : decode b_M_remove 105 = .ok (.putfield 76, 3) := by decide +kernel
theorem d_M_remove_108 : decode b_M_remove 108 = .ok (.aload_n 0, 1) := by decide +kernel
theorem d_M_remove_109 : decode b_M_remove 109 = .ok (.invokevirtual 95, 3) := by decide +kernel
theorem d_M_remove_112 : decode b_M_remove 112 = .ok (.aload_n 0, 1) := by decide +kernel
theorem d_M_remove_113 : decode b_M_remove 113 = .ok (.invokevirtual 98, 3) := by decide +kernel
theorem d_M_remove_116 : decode b_M_remove 116 = .ok (.iload 4, 2) := by decide +kernel
theorem d_M_remove_118 : decode b_M_remove 118 = .ok (.ireturn, 1) := by decide +kernel
theorem d_M_size_0 : decode b_M_size 0 = .ok (.aload_n 0, 1) := by decide +kernel
theorem d_M_size_1 : decode b_M_size 1 = .ok (.getfield 76, 3) := by decide +kernel
theorem d_M_size_4 : decode b_M_size 4 = .ok (.ireturn, 1) := by decide +kernel
theorem d_M_capacity_0 : decode b_M_capacity 0 = .ok (.aload_n 0, 1) := by decide +kernel
theorem d_M_capacity_1 : decode b_M_capacity 1 = .ok (.getfield 25, 3) := by decide +kernel
theorem d_M_capacity_4 : decode b_M_capacity 4 = .ok (.getfield 38, 3) := by decide +kernel
theorem d_M_capacity_7 : decode b_M_capacity 7 = .ok (.ireturn, 1) := by decide +kernel
theorem d_M_migrating_0 : decode b_M_migrating 0 = .ok (.aload_n 0, 1) := by decide +kernel
theorem d_M_migrating_1 : decode b_M_migrating 1 = .ok (.invokevirtual 47, 3) := by decide +kernel
theorem d_M_migrating_4 : decode b_M_migrating 4 = .ok (.ireturn, 1) := by decide +kernel
theorem d_M_lastWork_0 : decode b_M_lastWork 0 = .ok (.aload_n 0, 1) := by decide +kernel
theorem d_M_lastWork_1 : decode b_M_lastWork 1 = .ok (.getfield 44, 3) := by decide +kernel
theorem d_M_lastWork_4 : decode b_M_lastWork 4 = .ok (.ireturn, 1) := by decide +kernel
theorem d_M_slot_0 : decode b_M_slot 0 = .ok (.aload_n 0, 1) := by decide +kernel
theorem d_M_slot_1 : decode b_M_slot 1 = .ok (.getfield 25, 3) := by decide +kernel
theorem d_M_slot_4 : decode b_M_slot 4 = .ok (.iload_n 1, 1) := by decide +kernel
theorem d_M_slot_5 : decode b_M_slot 5 = .ok (.invokevirtual 51, 3) := by decide +kernel
theorem d_M_slot_8 : decode b_M_slot 8 = .ok (.istore_n 2, 1) := by decide +kernel
theorem d_M_slot_9 : decode b_M_slot 9 = .ok (.aload_n 0, 1) := by decide +kernel
theorem d_M_slot_10 : decode b_M_slot 10 = .ok (.getfield 25, 3) := by decide +kernel
theorem d_M_slot_13 : decode b_M_slot 13 = .ok (.iload_n 2, 1) := by decide +kernel
theorem d_M_slot_14 : decode b_M_slot 14 = .ok (.invokevirtual 55, 3) := by decide +kernel
theorem d_M_slot_17 : decode b_M_slot 17 = .ok (.ifCond .eq 5, 3) := by decide +kernel
theorem d_M_slot_20 : decode b_M_slot 20 = .ok (.iload_n 2, 1) := by decide +kernel
theorem d_M_slot_21 : decode b_M_slot 21 = .ok (.ireturn, 1) := by decide +kernel
theorem d_M_slot_22 : decode b_M_slot 22 = .ok (.aload_n 0, 1) := by decide +kernel
theorem d_M_slot_23 : decode b_M_slot 23 = .ok (.iload_n 1, 1) := by decide +kernel
theorem d_M_slot_24 : decode b_M_slot 24 = .ok (.invokevirtual 88, 3) := by decide +kernel
theorem d_M_slot_27 : decode b_M_slot 27 = .ok (.istore_n 3, 1) := by decide +kernel
theorem d_M_slot_28 : decode b_M_slot 28 = .ok (.iload_n 3, 1) := by decide +kernel
theorem d_M_slot_29 : decode b_M_slot 29 = .ok (.ifCond .ge 7, 3) := by decide +kernel
theorem d_M_slot_32 : decode b_M_slot 32 = .ok (.iconst (-1), 1) := by decide +kernel
theorem d_M_slot_33 : decode b_M_slot 33 = .ok (.goto 8, 3) := by decide +kernel
theorem d_M_slot_36 : decode b_M_slot 36 = .ok (.sipush 2000, 3) := by decide +kernel
theorem d_M_slot_39 : decode b_M_slot 39 = .ok (.iload_n 3, 1) := by decide +kernel
theorem d_M_slot_40 : decode b_M_slot 40 = .ok (.iadd, 1) := by decide +kernel
theorem d_M_slot_41 : decode b_M_slot 41 = .ok (.ireturn, 1) := by decide +kernel
theorem d_M_cursor_0 : decode b_M_cursor 0 = .ok (.aload_n 0, 1) := by decide +kernel
theorem d_M_cursor_1 : decode b_M_cursor 1 = .ok (.invokevirtual 47, 3) := by decide +kernel
theorem d_M_cursor_4 : decode b_M_cursor 4 = .ok (.ifCond .eq 10, 3) := by decide +kernel
theorem d_M_cursor_7 : decode b_M_cursor 7 = .ok (.aload_n 0, 1) := by decide +kernel
theorem d_M_cursor_8 : decode b_M_cursor 8 = .ok (.getfield 35, 3) := by decide +kernel
theorem d_M_cursor_11 : decode b_M_cursor 11 = .ok (.goto 4, 3) := by decide +kernel
theorem d_M_cursor_14 : decode b_M_cursor 14 = .ok (.iconst (-1), 1) := by decide +kernel
theorem d_M_cursor_15 : decode b_M_cursor 15 = .ok (.ireturn, 1) := by decide +kernel
end
section
theorem d_N_init_0 : decode b_N_init 0 = .ok (.aload_n 0, 1) := by decide +kernel
theorem d_N_init_1 : decode b_N_init 1 = .ok (.invokespecial 1, 3) := by decide +kernel
theorem d_N_init_4 : decode b_N_init 4 = .ok (.aload_n 0, 1) := by decide +kernel
theorem d_N_init_5 : decode b_N_init 5 = .ok (.sipush 2048, 3) := by decide +kernel
theorem d_N_init_8 : decode b_N_init 8 = .ok (.newarray .int, 2) := by decide +kernel
theorem d_N_init_10 : decode b_N_init 10 = .ok (.putfield 7, 3) := by decide +kernel
theorem d_N_init_13 : decode b_N_init 13 = .ok (.aload_n 0, 1) := by decide +kernel
theorem d_N_init_14 : decode b_N_init 14 = .ok (.sipush 2048, 3) := by decide +kernel
theorem d_N_init_17 : decode b_N_init 17 = .ok (.newarray .int, 2) := by decide +kernel
theorem d_N_init_19 : decode b_N_init 19 = .ok (.putfield 13, 3) := by decide +kernel
theorem d_N_init_22 : decode b_N_init 22 = .ok (.aload_n 0, 1) := by decide +kernel
theorem d_N_init_23 : decode b_N_init 23 = .ok (.sipush 2048, 3) := by decide +kernel
theorem d_N_init_26 : decode b_N_init 26 = .ok (.newarray .int, 2) := by decide +kernel
theorem d_N_init_28 : decode b_N_init 28 = .ok (.putfield 16, 3) := by decide +kernel
theorem d_N_init_31 : decode b_N_init 31 = .ok (.aload_n 0, 1) := by decide +kernel
theorem d_N_init_32 : decode b_N_init 32 = .ok (.iconst 2, 1) := by decide +kernel
theorem d_N_init_33 : decode b_N_init 33 = .ok (.newarray .int, 2) := by decide +kernel
theorem d_N_init_35 : decode b_N_init 35 = .ok (.putfield 19, 3) := by decide +kernel
theorem d_N_init_38 : decode b_N_init 38 = .ok (.bipush 8, 2) := by decide +kernel
theorem d_N_init_40 : decode b_N_init 40 = .ok (.istore_n 2, 1) := by decide +kernel
theorem d_N_init_41 : decode b_N_init 41 = .ok (.iload_n 2, 1) := by decide +kernel
theorem d_N_init_42 : decode b_N_init 42 = .ok (.sipush 1024, 3) := by decide +kernel
theorem d_N_init_45 : decode b_N_init 45 = .ok (.if_icmp .ge 17, 3) := by decide +kernel
theorem d_N_init_48 : decode b_N_init 48 = .ok (.iload_n 2, 1) := by decide +kernel
theorem d_N_init_49 : decode b_N_init 49 = .ok (.iload_n 1, 1) := by decide +kernel
theorem d_N_init_50 : decode b_N_init 50 = .ok (.iconst 2, 1) := by decide +kernel
theorem d_N_init_51 : decode b_N_init 51 = .ok (.idiv, 1) := by decide +kernel
theorem d_N_init_52 : decode b_N_init 52 = .ok (.if_icmp .gt 10, 3) := by decide +kernel
theorem d_N_init_55 : decode b_N_init 55 = .ok (.iload_n 2, 1) := by decide +kernel
theorem d_N_init_56 : decode b_N_init 56 = .ok (.iload_n 2, 1) := by decide +kernel
theorem d_N_init_57 : decode b_N_init 57 = .ok (.iadd, 1) := by decide +kernel
theorem d_N_init_58 : decode b_N_init 58 = .ok (.istore_n 2, 1) := by decide +kernel
theorem d_N_init_59 : decode b_N_init 59 = .ok (.goto (-18), 3) := by decide +kernel
theorem d_N_init_62 : decode b_N_init 62 = .ok (.aload_n 0, 1) := by decide +kernel
theorem d_N_init_63 : decode b_N_init 63 = .ok (.iload_n 2, 1) := by decide +kernel
theorem d_N_init_64 : decode b_N_init 64 = .ok (.putfield 22, 3) := by decide +kernel
theorem d_N_init_67 : decode b_N_init 67 = .ok (.aload_n 0, 1) := by decide +kernel
theorem d_N_init_68 : decode b_N_init 68 = .ok (.getfield 19, 3) := by decide +kernel
theorem d_N_init_71 : decode b_N_init 71 = .ok (.iconst 0, 1) := by decide +kernel
theorem d_N_init_72 : decode b_N_init 72 = .ok (.bipush 8, 2) := by decide +kernel
theorem d_N_init_74 : decode b_N_init 74 = .ok (.iastore, 1) := by decide +kernel
theorem d_N_init_75 : decode b_N_init 75 = .ok (.return_, 1) := by decide +kernel
theorem d_N_home_0 : decode b_N_home 0 = .ok (.iload_n 1, 1) := by decide +kernel
theorem d_N_home_1 : decode b_N_home 1 = .ok (.ldc 29, 2) := by decide +kernel
theorem d_N_home_3 : decode b_N_home 3 = .ok (.imul, 1) := by decide +kernel
theorem d_N_home_4 : decode b_N_home 4 = .ok (.istore_n 3, 1) := by decide +kernel
theorem d_N_home_5 : decode b_N_home 5 = .ok (.iload_n 3, 1) := by decide +kernel
theorem d_N_home_6 : decode b_N_home 6 = .ok (.iload_n 3, 1) := by decide +kernel
theorem d_N_home_7 : decode b_N_home 7 = .ok (.bipush 15, 2) := by decide +kernel
theorem d_N_home_9 : decode b_N_home 9 = .ok (.iushr, 1) := by decide +kernel
theorem d_N_home_10 : decode b_N_home 10 = .ok (.ixor, 1) := by decide +kernel
theorem d_N_home_11 : decode b_N_home 11 = .ok (.istore_n 3, 1) := by decide +kernel
theorem d_N_home_12 : decode b_N_home 12 = .ok (.iload_n 3, 1) := by decide +kernel
theorem d_N_home_13 : decode b_N_home 13 = .ok (.aload_n 0, 1) := by decide +kernel
theorem d_N_home_14 : decode b_N_home 14 = .ok (.getfield 19, 3) := by decide +kernel
theorem d_N_home_17 : decode b_N_home 17 = .ok (.iload_n 2, 1) := by decide +kernel
theorem d_N_home_18 : decode b_N_home 18 = .ok (.iaload, 1) := by decide +kernel
theorem d_N_home_19 : decode b_N_home 19 = .ok (.irem, 1) := by decide +kernel
theorem d_N_home_20 : decode b_N_home 20 = .ok (.istore 4, 2) := by decide +kernel
theorem d_N_home_22 : decode b_N_home 22 = .ok (.iload 4, 2) := by decide +kernel
theorem d_N_home_24 : decode b_N_home 24 = .ok (.ifCond .ge 15, 3) := by decide +kernel
theorem d_N_home_27 : decode b_N_home 27 = .ok (.iload 4, 2) := by decide +kernel
theorem d_N_home_29 : decode b_N_home 29 = .ok (.aload_n 0, 1) := by decide +kernel
theorem d_N_home_30 : decode b_N_home 30 = .ok (.getfield 19, 3) := by decide +kernel
theorem d_N_home_33 : decode b_N_home 33 = .ok (.iload_n 2, 1) := by decide +kernel
theorem d_N_home_34 : decode b_N_home 34 = .ok (.iaload, 1) := by decide +kernel
theorem d_N_home_35 : decode b_N_home 35 = .ok (.iadd, 1) := by decide +kernel
theorem d_N_home_36 : decode b_N_home 36 = .ok (.goto 5, 3) := by decide +kernel
theorem d_N_home_39 : decode b_N_home 39 = .ok (.iload 4, 2) := by decide +kernel
theorem d_N_home_41 : decode b_N_home 41 = .ok (.ireturn, 1) := by decide +kernel
theorem d_N_behind_0 : decode b_N_behind 0 = .ok (.iload_n 1, 1) := by decide +kernel
theorem d_N_behind_1 : decode b_N_behind 1 = .ok (.iconst 1, 1) := by decide +kernel
theorem d_N_behind_2 : decode b_N_behind 2 = .ok (.iadd, 1) := by decide +kernel
theorem d_N_behind_3 : decode b_N_behind 3 = .ok (.aload_n 0, 1) := by decide +kernel
theorem d_N_behind_4 : decode b_N_behind 4 = .ok (.getfield 19, 3) := by decide +kernel
theorem d_N_behind_7 : decode b_N_behind 7 = .ok (.iload_n 2, 1) := by decide +kernel
theorem d_N_behind_8 : decode b_N_behind 8 = .ok (.iaload, 1) := by decide +kernel
theorem d_N_behind_9 : decode b_N_behind 9 = .ok (.irem, 1) := by decide +kernel
theorem d_N_behind_10 : decode b_N_behind 10 = .ok (.ireturn, 1) := by decide +kernel
theorem d_N_at_0 : decode b_N_at 0 = .ok (.sipush 1024, 3) := by decide +kernel
theorem d_N_at_3 : decode b_N_at 3 = .ok (.iload_n 1, 1) := by decide +kernel
theorem d_N_at_4 : decode b_N_at 4 = .ok (.imul, 1) := by decide +kernel
theorem d_N_at_5 : decode b_N_at 5 = .ok (.iload_n 2, 1) := by decide +kernel
theorem d_N_at_6 : decode b_N_at 6 = .ok (.iadd, 1) := by decide +kernel
theorem d_N_at_7 : decode b_N_at 7 = .ok (.ireturn, 1) := by decide +kernel
theorem d_N_look_0 : decode b_N_look 0 = .ok (.aload_n 0, 1) := by decide +kernel
theorem d_N_look_1 : decode b_N_look 1 = .ok (.iload_n 1, 1) := by decide +kernel
theorem d_N_look_2 : decode b_N_look 2 = .ok (.iload_n 2, 1) := by decide +kernel
theorem d_N_look_3 : decode b_N_look 3 = .ok (.invokevirtual 30, 3) := by decide +kernel
theorem d_N_look_6 : decode b_N_look 6 = .ok (.istore_n 3, 1) := by decide +kernel
theorem d_N_look_7 : decode b_N_look 7 = .ok (.aload_n 0, 1) := by decide +kernel
theorem d_N_look_8 : decode b_N_look 8 = .ok (.dup, 1) := by decide +kernel
theorem d_N_look_9 : decode b_N_look 9 = .ok (.getfield 34, 3) := by decide +kernel
theorem d_N_look_12 : decode b_N_look 12 = .ok (.iconst 1, 1) := by decide +kernel
theorem d_N_look_13 : decode b_N_look 13 = .ok (.iadd, 1) := by decide +kernel
theorem d_N_look_14 : decode b_N_look 14 = .ok (.putfield 34, 3) := by decide +kernel
theorem d_N_look_17 : decode b_N_look 17 = .ok (.aload_n 0, 1) := by decide +kernel
theorem d_N_look_18 : decode b_N_look 18 = .ok (.getfield 7, 3) := by decide +kernel
theorem d_N_look_21 : decode b_N_look 21 = .ok (.aload_n 0, 1) := by decide +kernel
theorem d_N_look_22 : decode b_N_look 22 = .ok (.iload_n 2, 1) := by decide +kernel
theorem d_N_look_23 : decode b_N_look 23 = .ok (.iload_n 3, 1) := by decide +kernel
theorem d_N_look_24 : decode b_N_look 24 = .ok (.invokevirtual 37, 3) := by decide +kernel
theorem d_N_look_27 : decode b_N_look 27 = .ok (.iaload, 1) := by decide +kernel
theorem d_N_look_28 : decode b_N_look 28 = .ok (.ifCond .eq 55, 3) := by decide +kernel
theorem d_N_look_31 : decode b_N_look 31 = .ok (.aload_n 0, 1) := by decide +kernel
theorem d_N_look_32 : decode b_N_look 32 = .ok (.getfield 7, 3) := by decide +kernel
theorem d_N_look_35 : decode b_N_look 35 = .ok (.aload_n 0, 1) := by decide +kernel
theorem d_N_look_36 : decode b_N_look 36 = .ok (.iload_n 2, 1) := by decide +kernel
theorem d_N_look_37 : decode b_N_look 37 = .ok (.iload_n 3, 1) := by decide +kernel
theorem d_N_look_38 : decode b_N_look 38 = .ok (.invokevirtual 37, 3) := by decide +kernel
theorem d_N_look_41 : decode b_N_look 41 = .ok (.iaload, 1) := by decide +kernel
theorem d_N_look_42 : decode b_N_look 42 = .ok (.iconst 1, 1) := by decide +kernel
theorem d_N_look_43 : decode b_N_look 43 = .ok (.if_icmp .ne 20, 3) := by decide +kernel
theorem d_N_look_46 : decode b_N_look 46 = .ok (.aload_n 0, 1) := by decide +kernel
theorem d_N_look_47 : decode b_N_look 47 = .ok (.getfield 13, 3) := by decide +kernel
theorem d_N_look_50 : decode b_N_look 50 = .ok (.aload_n 0, 1) := by decide +kernel
theorem d_N_look_51 : decode b_N_look 51 = .ok (.iload_n 2, 1) := by decide +kernel
theorem d_N_look_52 : decode b_N_look 52 = .ok (.iload_n 3, 1) := by decide +kernel
theorem d_N_look_53 : decode b_N_look 53 = .ok (.invokevirtual 37, 3) := by decide +kernel
theorem d_N_look_56 : decode b_N_look 56 = .ok (.iaload, 1) := by decide +kernel
theorem d_N_look_57 : decode b_N_look 57 = .ok (.iload_n 1, 1) := by decide +kernel
theorem d_N_look_58 : decode b_N_look 58 = .ok (.if_icmp .ne 5, 3) := by decide +kernel
theorem d_N_look_61 : decode b_N_look 61 = .ok (.iload_n 3, 1) := by decide +kernel
theorem d_N_look_62 : decode b_N_look 62 = .ok (.ireturn, 1) := by decide +kernel
theorem d_N_look_63 : decode b_N_look 63 = .ok (.aload_n 0, 1) := by decide +kernel
theorem d_N_look_64 : decode b_N_look 64 = .ok (.iload_n 3, 1) := by decide +kernel
theorem d_N_look_65 : decode b_N_look 65 = .ok (.iload_n 2, 1) := by decide +kernel
theorem d_N_look_66 : decode b_N_look 66 = .ok (.invokevirtual 40, 3) := by decide +kernel
theorem d_N_look_69 : decode b_N_look 69 = .ok (.istore_n 3, 1) := by decide +kernel
theorem d_N_look_70 : decode b_N_look 70 = .ok (.aload_n 0, 1) := by decide +kernel
theorem d_N_look_71 : decode b_N_look 71 = .ok (.dup, 1) := by decide +kernel
theorem d_N_look_72 : decode b_N_look 72 = .ok (.getfield 34, 3) := by decide +kernel
theorem d_N_look_75 : decode b_N_look 75 = .ok (.iconst 1, 1) := by decide +kernel
theorem d_N_look_76 : decode b_N_look 76 = .ok (.iadd, 1) := by decide +kernel
theorem d_N_look_77 : decode b_N_look 77 = .ok (.putfield 34, 3) := by decide +kernel
theorem d_N_look_80 : decode b_N_look 80 = .ok (.goto (-63), 3) := by decide +kernel
theorem d_N_look_83 : decode b_N_look 83 = .ok (.iconst (-1), 1) := by decide +kernel
theorem d_N_look_84 : decode b_N_look 84 = .ok (.iload_n 3, 1) := by decide +kernel
theorem d_N_look_85 : decode b_N_look 85 = .ok (.isub, 1) := by decide +kernel
theorem d_N_look_86 : decode b_N_look 86 = .ok (.ireturn, 1) := by decide +kernel
theorem d_N_lay_0 : decode b_N_lay 0 = .ok (.aload_n 0, 1) := by decide +kernel
theorem d_N_lay_1 : decode b_N_lay 1 = .ok (.getfield 7, 3) := by decide +kernel
theorem d_N_lay_4 : decode b_N_lay 4 = .ok (.aload_n 0, 1) := by decide +kernel
theorem d_N_lay_5 : decode b_N_lay 5 = .ok (.iload_n 1, 1) := by decide +kernel
theorem d_N_lay_6 : decode b_N_lay 6 = .ok (.iload_n 2, 1) := by decide +kernel
theorem d_N_lay_7 : decode b_N_lay 7 = .ok (.invokevirtual 37, 3) := by decide +kernel
theorem d_N_lay_10 : decode b_N_lay 10 = .ok (.iconst 1, 1) := by decide +kernel
theorem d_N_lay_11 : decode b_N_lay 11 = .ok (.iastore, 1) := by decide +kernel
theorem d_N_lay_12 : decode b_N_lay 12 = .ok (.aload_n 0, 1) := by decide +kernel
theorem d_N_lay_13 : decode b_N_lay 13 = .ok (.getfield 13, 3) := by decide +kernel
theorem d_N_lay_16 : decode b_N_lay 16 = .ok (.aload_n 0, 1) := by decide +kernel
theorem d_N_lay_17 : decode b_N_lay 17 = .ok (.iload_n 1, 1) := by decide +kernel
theorem d_N_lay_18 : decode b_N_lay 18 = .ok (.iload_n 2, 1) := by decide +kernel
theorem d_N_lay_19 : decode b_N_lay 19 = .ok (.invokevirtual 37, 3) := by decide +kernel
theorem d_N_lay_22 : decode b_N_lay 22 = .ok (.iload_n 3, 1) := by decide +kernel
theorem d_N_lay_23 : decode b_N_lay 23 = .ok (.iastore, 1) := by decide +kernel
theorem d_N_lay_24 : decode b_N_lay 24 = .ok (.aload_n 0, 1) := by decide +kernel
theorem d_N_lay_25 : decode b_N_lay 25 = .ok (.getfield 16, 3) := by decide +kernel
theorem d_N_lay_28 : decode b_N_lay 28 = .ok (.aload_n 0, 1) := by decide +kernel
theorem d_N_lay_29 : decode b_N_lay 29 = .ok (.iload_n 1, 1) := by decide +kernel
theorem d_N_lay_30 : decode b_N_lay 30 = .ok (.iload_n 2, 1) := by decide +kernel
theorem d_N_lay_31 : decode b_N_lay 31 = .ok (.invokevirtual 37, 3) := by decide +kernel
theorem d_N_lay_34 : decode b_N_lay 34 = .ok (.iload 4, 2) := by decide +kernel
theorem d_N_lay_36 : decode b_N_lay 36 = .ok (.iastore, 1) := by decide +kernel
theorem d_N_lay_37 : decode b_N_lay 37 = .ok (.return_, 1) := by decide +kernel
theorem d_N_moveSome_0 : decode b_N_moveSome 0 = .ok (.iconst 1, 1) := by decide +kernel
theorem d_N_moveSome_1 : decode b_N_moveSome 1 = .ok (.aload_n 0, 1) := by decide +kernel
theorem d_N_moveSome_2 : decode b_N_moveSome 2 = .ok (.getfield 43, 3) := by decide +kernel
theorem d_N_moveSome_5 : decode b_N_moveSome 5 = .ok (.isub, 1) := by decide +kernel
theorem d_N_moveSome_6 : decode b_N_moveSome 6 = .ok (.istore_n 1, 1) := by decide +kernel
theorem d_N_moveSome_7 : decode b_N_moveSome 7 = .ok (.iconst 0, 1) := by decide +kernel
theorem d_N_moveSome_8 : decode b_N_moveSome 8 = .ok (.istore_n 2, 1) := by decide +kernel
theorem d_N_moveSome_9 : decode b_N_moveSome 9 = .ok (.iload_n 2, 1) := by decide +kernel
theorem d_N_moveSome_10 : decode b_N_moveSome 10 = .ok (.iconst 4, 1) := by decide +kernel
theorem d_N_moveSome_11 : decode b_N_moveSome 11 = .ok (.if_icmp .ge 109, 3) := by decide +kernel
theorem d_N_moveSome_14 : decode b_N_moveSome 14 = .ok (.aload_n 0, 1) := by decide +kernel
theorem d_N_moveSome_15 : decode b_N_moveSome 15 = .ok (.getfield 46, 3) := by decide +kernel
theorem d_N_moveSome_18 : decode b_N_moveSome 18 = .ok (.aload_n 0, 1) := by decide +kernel
theorem d_N_moveSome_19 : decode b_N_moveSome 19 = .ok (.getfield 19, 3) := by decide +kernel
theorem d_N_moveSome_22 : decode b_N_moveSome 22 = .ok (.iload_n 1, 1) := by decide +kernel
theorem d_N_moveSome_23 : decode b_N_moveSome 23 = .ok (.iaload, 1) := by decide +kernel
theorem d_N_moveSome_24 : decode b_N_moveSome 24 = .ok (.if_icmp .ge 96, 3) := by decide +kernel
theorem d_N_moveSome_27 : decode b_N_moveSome 27 = .ok (.aload_n 0, 1) := by decide +kernel
theorem d_N_moveSome_28 : decode b_N_moveSome 28 = .ok (.dup, 1) := by decide +kernel
theorem d_N_moveSome_29 : decode b_N_moveSome 29 = .ok (.getfield 34, 3) := by decide +kernel
theorem d_N_moveSome_32 : decode b_N_moveSome 32 = .ok (.iconst 1, 1) := by decide +kernel
theorem d_N_moveSome_33 : decode b_N_moveSome 33 = .ok (.iadd, 1) := by decide +kernel
theorem d_N_moveSome_34 : decode b_N_moveSome 34 = .ok (.putfield 34, 3) := by decide +kernel
theorem d_N_moveSome_37 : decode b_N_moveSome 37 = .ok (.aload_n 0, 1) := by decide +kernel
theorem d_N_moveSome_38 : decode b_N_moveSome 38 = .ok (.iload_n 1, 1) := by decide +kernel
theorem d_N_moveSome_39 : decode b_N_moveSome 39 = .ok (.aload_n 0, 1) := by decide +kernel
theorem d_N_moveSome_40 : decode b_N_moveSome 40 = .ok (.getfield 46, 3) := by decide +kernel
theorem d_N_moveSome_43 : decode b_N_moveSome 43 = .ok (.invokevirtual 37, 3) := by decide +kernel
theorem d_N_moveSome_46 : decode b_N_moveSome 46 = .ok (.istore_n 3, 1) := by decide +kernel
theorem d_N_moveSome_47 : decode b_N_moveSome 47 = .ok (.aload_n 0, 1) := by decide +kernel
theorem d_N_moveSome_48 : decode b_N_moveSome 48 = .ok (.getfield 7, 3) := by decide +kernel
theorem d_N_moveSome_51 : decode b_N_moveSome 51 = .ok (.iload_n 3, 1) := by decide +kernel
theorem d_N_moveSome_52 : decode b_N_moveSome 52 = .ok (.iaload, 1) := by decide +kernel
theorem d_N_moveSome_53 : decode b_N_moveSome 53 = .ok (.iconst 1, 1) := by decide +kernel
theorem d_N_moveSome_54 : decode b_N_moveSome 54 = .ok (.if_icmp .ne 50, 3) := by decide +kernel
theorem d_N_moveSome_57 : decode b_N_moveSome 57 = .ok (.aload_n 0, 1) := by decide +kernel
theorem d_N_moveSome_58 : decode b_N_moveSome 58 = .ok (.aload_n 0, 1) := by decide +kernel
theorem d_N_moveSome_59 : decode b_N_moveSome 59 = .ok (.getfield 13, 3) := by decide +kernel
theorem d_N_moveSome_62 : decode b_N_moveSome 62 = .ok (.iload_n 3, 1) := by decide +kernel
theorem d_N_moveSome_63 : decode b_N_moveSome 63 = .ok (.iaload, 1) := by decide +kernel
theorem d_N_moveSome_64 : decode b_N_moveSome 64 = .ok (.aload_n 0, 1) := by decide +kernel
theorem d_N_moveSome_65 : decode b_N_moveSome 65 = .ok (.getfield 43, 3) := by decide +kernel
theorem d_N_moveSome_68 : decode b_N_moveSome 68 = .ok (.invokevirtual 49, 3) := by decide +kernel
theorem d_N_moveSome_71 : decode b_N_moveSome 71 = .ok (.istore 4, 2) := by decide +kernel
theorem d_N_moveSome_73 : decode b_N_moveSome 73 = .ok (.aload_n 0, 1) := by decide +kernel
theorem d_N_moveSome_74 : decode b_N_moveSome 74 = .ok (.aload_n 0, 1) := by decide +kernel
theorem d_N_moveSome_75 : decode b_N_moveSome 75 = .ok (.getfield 43, 3) := by decide +kernel
theorem d_N_moveSome_78 : decode b_N_moveSome 78 = .ok (.iconst (-1), 1) := by decide +kernel
theorem d_N_moveSome_79 : decode b_N_moveSome 79 = .ok (.iload 4, 2) := by decide +kernel
theorem d_N_moveSome_81 : decode b_N_moveSome 81 = .ok (.isub, 1) := by decide +kernel
theorem d_N_moveSome_82 : decode b_N_moveSome 82 = .ok (.aload_n 0, 1) := by decide +kernel
theorem d_N_moveSome_83 : decode b_N_moveSome 83 = .ok (.getfield 13, 3) := by decide +kernel
theorem d_N_moveSome_86 : decode b_N_moveSome 86 = .ok (.iload_n 3, 1) := by decide +kernel
theorem d_N_moveSome_87 : decode b_N_moveSome 87 = .ok (.iaload, 1) := by decide +kernel
theorem d_N_moveSome_88 : decode b_N_moveSome 88 = .ok (.aload_n 0, 1) := by decide +kernel
theorem d_N_moveSome_89 : decode b_N_moveSome 89 = .ok (.getfield 16, 3) := by decide +kernel
theorem d_N_moveSome_92 : decode b_N_moveSome 92 = .ok (.iload_n 3, 1) := by decide +kernel
theorem d_N_moveSome_93 : decode b_N_moveSome 93 = .ok (.iaload, 1) := by decide +kernel
theorem d_N_moveSome_94 : decode b_N_moveSome 94 = .ok (.invokevirtual 52, 3) := by decide +kernel
theorem d_N_moveSome_97 : decode b_N_moveSome 97 = .ok (.aload_n 0, 1) := by decide +kernel
theorem d_N_moveSome_98 : decode b_N_moveSome 98 = .ok (.getfield 7, 3) := by decide +kernel
theorem d_N_moveSome_101 : decode b_N_moveSome 101 = .ok (.iload_n 3, 1) := by decide +kernel
theorem d_N_moveSome_102 : decode b_N_moveSome 102 = .ok (.iconst 2, 1) := by decide +kernel
theorem d_N_moveSome_103 : decode b_N_moveSome 103 = .ok (.iastore, 1) := by decide +kernel
theorem d_N_moveSome_104 : decode b_N_moveSome 104 = .ok (.aload_n 0, 1) := by decide +kernel
theorem d_N_moveSome_105 : decode b_N_moveSome 105 = .ok (.dup, 1) := by decide +kernel
theorem d_N_moveSome_106 : decode b_N_moveSome 106 = .ok (.getfield 46, 3) := by decide +kernel
theorem d_N_moveSome_109 : decode b_N_moveSome 109 = .ok (.iconst 1, 1) := by decide +kernel
theorem d_N_moveSome_110 : decode b_N_moveSome 110 = .ok (.iadd, 1) := by decide +kernel
theorem d_N_moveSome_111 : decode b_N_moveSome 111 = .ok (.putfield 46, 3) := by decide +kernel
theorem d_N_moveSome_114 : decode b_N_moveSome 114 = .ok (.iinc 2 1, 3) := by decide +kernel
theorem d_N_moveSome_117 : decode b_N_moveSome 117 = .ok (.goto (-108), 3) := by decide +kernel
theorem d_N_moveSome_120 : decode b_N_moveSome 120 = .ok (.aload_n 0, 1) := by decide +kernel
theorem d_N_moveSome_121 : decode b_N_moveSome 121 = .ok (.aload_n 0, 1) := by decide +kernel
theorem d_N_moveSome_122 : decode b_N_moveSome 122 = .ok (.getfield 46, 3) := by decide +kernel
theorem d_N_moveSome_125 : decode b_N_moveSome 125 = .ok (.aload_n 0, 1) := by decide +kernel
theorem d_N_moveSome_126 : decode b_N_moveSome 126 = .ok (.getfield 19, 3) := by decide +kernel
theorem d_N_moveSome_129 : decode b_N_moveSome 129 = .ok (.iload_n 1, 1) := by decide +kernel
theorem d_N_moveSome_130 : decode b_N_moveSome 130 = .ok (.iaload, 1) := by decide +kernel
theorem d_N_moveSome_131 : decode b_N_moveSome 131 = .ok (.if_icmp .ge 7, 3) := by decide +kernel
theorem d_N_moveSome_134 : decode b_N_moveSome 134 = .ok (.iconst 1, 1) := by decide +kernel
theorem d_N_moveSome_135 : decode b_N_moveSome 135 = .ok (.goto 4, 3) := by decide +kernel
theorem d_N_moveSome_138 : decode b_N_moveSome 138 = .ok (.iconst 0, 1) := by decide +kernel
theorem d_N_moveSome_139 : decode b_N_moveSome 139 = .ok (.putfield 56, 3) := by decide +kernel
theorem d_N_moveSome_142 : decode b_N_moveSome 142 = .ok (.return_, 1) := by decide +kernel
theorem d_N_become_0 : decode b_N_become 0 = .ok (.aload_n 0, 1) := by decide +kernel
theorem d_N_become_1 : decode b_N_become 1 = .ok (.iconst 1, 1) := by decide +kernel
theorem d_N_become_2 : decode b_N_become 2 = .ok (.aload_n 0, 1) := by decide +kernel
theorem d_N_become_3 : decode b_N_become 3 = .ok (.getfield 43, 3) := by decide +kernel
theorem d_N_become_6 : decode b_N_become 6 = .ok (.isub, 1) := by decide +kernel
theorem d_N_become_7 : decode b_N_become 7 = .ok (.putfield 43, 3) := by decide +kernel
theorem d_N_become_10 : decode b_N_become 10 = .ok (.aload_n 0, 1) := by decide +kernel
theorem d_N_become_11 : decode b_N_become 11 = .ok (.getfield 19, 3) := by decide +kernel
theorem d_N_become_14 : decode b_N_become 14 = .ok (.aload_n 0, 1) := by decide +kernel
theorem d_N_become_15 : decode b_N_become 15 = .ok (.getfield 43, 3) := by decide +kernel
theorem d_N_become_18 : decode b_N_become 18 = .ok (.iload_n 1, 1) := by decide +kernel
theorem d_N_become_19 : decode b_N_become 19 = .ok (.iastore, 1) := by decide +kernel
theorem d_N_become_20 : decode b_N_become 20 = .ok (.iconst 0, 1) := by decide +kernel
theorem d_N_become_21 : decode b_N_become 21 = .ok (.istore_n 2, 1) := by decide +kernel
theorem d_N_become_22 : decode b_N_become 22 = .ok (.iload_n 2, 1) := by decide +kernel
theorem d_N_become_23 : decode b_N_become 23 = .ok (.iload_n 1, 1) := by decide +kernel
theorem d_N_become_24 : decode b_N_become 24 = .ok (.if_icmp .ge 24, 3) := by decide +kernel
theorem d_N_become_27 : decode b_N_become 27 = .ok (.aload_n 0, 1) := by decide +kernel
theorem d_N_become_28 : decode b_N_become 28 = .ok (.getfield 7, 3) := by decide +kernel
theorem d_N_become_31 : decode b_N_become 31 = .ok (.aload_n 0, 1) := by decide +kernel
theorem d_N_become_32 : decode b_N_become 32 = .ok (.aload_n 0, 1) := by decide +kernel
theorem d_N_become_33 : decode b_N_become 33 = .ok (.getfield 43, 3) := by decide +kernel
theorem d_N_become_36 : decode b_N_become 36 = .ok (.iload_n 2, 1) := by decide +kernel
theorem d_N_become_37 : decode b_N_become 37 = .ok (.invokevirtual 37, 3) := by decide +kernel
theorem d_N_become_40 : decode b_N_become 40 = .ok (.iconst 0, 1) := by decide +kernel
theorem d_N_become_41 : decode b_N_become 41 = .ok (.iastore, 1) := by decide +kernel
theorem d_N_become_42 : decode b_N_become 42 = .ok (.iinc 2 1, 3) := by decide +kernel
theorem d_N_become_45 : decode b_N_become 45 = .ok (.goto (-23), 3) := by decide +kernel
theorem d_N_become_48 : decode b_N_become 48 = .ok (.aload_n 0, 1) := by decide +kernel
theorem d_N_become_49 : decode b_N_become 49 = .ok (.iconst 0, 1) := by decide +kernel
theorem d_N_become_50 : decode b_N_become 50 = .ok (.putfield 46, 3) := by decide +kernel
theorem d_N_become_53 : decode b_N_become 53 = .ok (.aload_n 0, 1) := by decide +kernel
theorem d_N_become_54 : decode b_N_become 54 = .ok (.iconst 1, 1) := by decide +kernel
theorem d_N_become_55 : decode b_N_become 55 = .ok (.putfield 56, 3) := by decide +kernel
theorem d_N_become_58 : decode b_N_become 58 = .ok (.return_, 1) := by decide +kernel
theorem d_N_settle_0 : decode b_N_settle 0 = .ok (.aload_n 0, 1) := by decide +kernel
theorem d_N_settle_1 : decode b_N_settle 1 = .ok (.getfield 56, 3) := by decide +kernel
theorem d_N_settle_4 : decode b_N_settle 4 = .ok (.ifCond .eq 7, 3) := by decide +kernel
theorem d_N_settle_7 : decode b_N_settle 7 = .ok (.aload_n 0, 1) := by decide +kernel
theorem d_N_settle_8 : decode b_N_settle 8 = .ok (.invokevirtual 60, 3) := by decide +kernel
theorem d_N_settle_11 : decode b_N_settle 11 = .ok (.aload_n 0, 1) := by decide +kernel
theorem d_N_settle_12 : decode b_N_settle 12 = .ok (.getfield 19, 3) := by decide +kernel
theorem d_N_settle_15 : decode b_N_settle 15 = .ok (.aload_n 0, 1) := by decide +kernel
theorem d_N_settle_16 : decode b_N_settle 16 = .ok (.getfield 43, 3) := by decide +kernel
theorem d_N_settle_19 : decode b_N_settle 19 = .ok (.iaload, 1) := by decide +kernel
theorem d_N_settle_20 : decode b_N_settle 20 = .ok (.istore_n 1, 1) := by decide +kernel
theorem d_N_settle_21 : decode b_N_settle 21 = .ok (.aload_n 0, 1) := by decide +kernel
theorem d_N_settle_22 : decode b_N_settle 22 = .ok (.getfield 56, 3) := by decide +kernel
theorem d_N_settle_25 : decode b_N_settle 25 = .ok (.ifCond .ne 25, 3) := by decide +kernel
theorem d_N_settle_28 : decode b_N_settle 28 = .ok (.iconst 4, 1) := by decide +kernel
theorem d_N_settle_29 : decode b_N_settle 29 = .ok (.aload_n 0, 1) := by decide +kernel
theorem d_N_settle_30 : decode b_N_settle 30 = .ok (.getfield 63, 3) := by decide +kernel
theorem d_N_settle_33 : decode b_N_settle 33 = .ok (.imul, 1) := by decide +kernel
theorem d_N_settle_34 : decode b_N_settle 34 = .ok (.iconst 3, 1) := by decide +kernel
theorem d_N_settle_35 : decode b_N_settle 35 = .ok (.iload_n 1, 1) := by decide +kernel
theorem d_N_settle_36 : decode b_N_settle 36 = .ok (.imul, 1) := by decide +kernel
theorem d_N_settle_37 : decode b_N_settle 37 = .ok (.if_icmp .lt 13, 3) := by decide +kernel
theorem d_N_settle_40 : decode b_N_settle 40 = .ok (.aload_n 0, 1) := by decide +kernel
theorem d_N_settle_41 : decode b_N_settle 41 = .ok (.iconst 2, 1) := by decide +kernel
theorem d_N_settle_42 : decode b_N_settle 42 = .ok (.iload_n 1, 1) := by decide +kernel
theorem d_N_settle_43 : decode b_N_settle 43 = .ok (.imul, 1) := by decide +kernel
theorem d_N_settle_44 : decode b_N_settle 44 = .ok (.invokevirtual 66, 3) := by decide +kernel
theorem d_N_settle_47 : decode b_N_settle 47 = .ok (.goto 34, 3) := by decide +kernel
theorem d_N_settle_50 : decode b_N_settle 50 = .ok (.aload_n 0, 1) := by decide +kernel
theorem d_N_settle_51 : decode b_N_settle 51 = .ok (.getfield 56, 3) := by decide +kernel
theorem d_N_settle_54 : decode b_N_settle 54 = .ok (.ifCond .ne 27, 3) := by decide +kernel
theorem d_N_settle_57 : decode b_N_settle 57 = .ok (.iload_n 1, 1) := by decide +kernel
theorem d_N_settle_58 : decode b_N_settle 58 = .ok (.bipush 8, 2) := by decide +kernel
theorem d_N_settle_60 : decode b_N_settle 60 = .ok (.if_icmp .le 21, 3) := by decide +kernel
theorem d_N_settle_63 : decode b_N_settle 63 = .ok (.bipush 8, 2) := by decide +kernel
theorem d_N_settle_65 : decode b_N_settle 65 = .ok (.aload_n 0, 1) := by decide +kernel
theorem d_N_settle_66 : decode b_N_settle 66 = .ok (.getfield 63, 3) := by decide +kernel
theorem d_N_settle_69 : decode b_N_settle 69 = .ok (.imul, 1) := by decide +kernel
theorem d_N_settle_70 : decode b_N_settle 70 = .ok (.iload_n 1, 1) := by decide +kernel
theorem d_N_settle_71 : decode b_N_settle 71 = .ok (.if_icmp .gt 10, 3) := by decide +kernel
theorem d_N_settle_74 : decode b_N_settle 74 = .ok (.aload_n 0, 1) := by decide +kernel
theorem d_N_settle_75 : decode b_N_settle 75 = .ok (.iload_n 1, 1) := by decide +kernel
theorem d_N_settle_76 : decode b_N_settle 76 = .ok (.iconst 2, 1) := by decide +kernel
theorem d_N_settle_77 : decode b_N_settle 77 = .ok (.idiv, 1) := by decide +kernel
theorem d_N_settle_78 : decode b_N_settle 78 = .ok (.invokevirtual 66, 3) := by decide +kernel
theorem d_N_settle_81 : decode b_N_settle 81 = .ok (.return_, 1) := by decide +kernel
theorem d_N_isFull_0 : decode b_N_isFull 0 = .ok (.aload_n 0, 1) := by decide +kernel
theorem d_N_isFull_1 : decode b_N_isFull 1 = .ok (.getfield 56, 3) := by decide +kernel
theorem d_N_isFull_4 : decode b_N_isFull 4 = .ok (.ifCond .eq 27, 3) := by decide +kernel
theorem d_N_isFull_7 : decode b_N_isFull 7 = .ok (.aload_n 0, 1) := by decide +kernel
theorem d_N_isFull_8 : decode b_N_isFull 8 = .ok (.getfield 19, 3) := by decide +kernel
theorem d_N_isFull_11 : decode b_N_isFull 11 = .ok (.iconst 1, 1) := by decide +kernel
theorem d_N_isFull_12 : decode b_N_isFull 12 = .ok (.aload_n 0, 1) := by decide +kernel
theorem d_N_isFull_13 : decode b_N_isFull 13 = .ok (.getfield 43, 3) := by decide +kernel
theorem d_N_isFull_16 : decode b_N_isFull 16 = .ok (.isub, 1) := by decide +kernel
theorem d_N_isFull_17 : decode b_N_isFull 17 = .ok (.iaload, 1) := by decide +kernel
theorem d_N_isFull_18 : decode b_N_isFull 18 = .ok (.aload_n 0, 1) := by decide +kernel
theorem d_N_isFull_19 : decode b_N_isFull 19 = .ok (.getfield 46, 3) := by decide +kernel
theorem d_N_isFull_22 : decode b_N_isFull 22 = .ok (.isub, 1) := by decide +kernel
theorem d_N_isFull_23 : decode b_N_isFull 23 = .ok (.iconst 4, 1) := by decide +kernel
theorem d_N_isFull_24 : decode b_N_isFull 24 = .ok (.if_icmp .le 7, 3) := by decide +kernel
theorem d_N_isFull_27 : decode b_N_isFull 27 = .ok (.iconst 1, 1) := by decide +kernel
theorem d_N_isFull_28 : decode b_N_isFull 28 = .ok (.goto 4, 3) := by decide +kernel
theorem d_N_isFull_31 : decode b_N_isFull 31 = .ok (.iconst 0, 1) := by decide +kernel
theorem d_N_isFull_32 : decode b_N_isFull 32 = .ok (.istore_n 1, 1) := by decide +kernel
theorem d_N_isFull_33 : decode b_N_isFull 33 = .ok (.iload_n 1, 1) := by decide +kernel
theorem d_N_isFull_34 : decode b_N_isFull 34 = .ok (.ifCond .ne 47, 3) := by decide +kernel
theorem d_N_isFull_37 : decode b_N_isFull 37 = .ok (.iconst 4, 1) := by decide +kernel
theorem d_N_isFull_38 : decode b_N_isFull 38 = .ok (.aload_n 0, 1) := by decide +kernel
theorem d_N_isFull_39 : decode b_N_isFull 39 = .ok (.getfield 63, 3) := by decide +kernel
theorem d_N_isFull_42 : decode b_N_isFull 42 = .ok (.imul, 1) := by decide +kernel
theorem d_N_isFull_43 : decode b_N_isFull 43 = .ok (.iconst 4, 1) := by decide +kernel
theorem d_N_isFull_44 : decode b_N_isFull 44 = .ok (.iadd, 1) := by decide +kernel
theorem d_N_isFull_45 : decode b_N_isFull 45 = .ok (.iconst 3, 1) := by decide +kernel
theorem d_N_isFull_46 : decode b_N_isFull 46 = .ok (.aload_n 0, 1) := by decide +kernel
theorem d_N_isFull_47 : decode b_N_isFull 47 = .ok (.getfield 19, 3) := by decide +kernel
theorem d_N_isFull_50 : decode b_N_isFull 50 = .ok (.aload_n 0, 1) := by decide +kernel
theorem d_N_isFull_51 : decode b_N_isFull 51 = .ok (.getfield 43, 3) := by decide +kernel
theorem d_N_isFull_54 : decode b_N_isFull 54 = .ok (.iaload, 1) := by decide +kernel
theorem d_N_isFull_55 : decode b_N_isFull 55 = .ok (.imul, 1) := by decide +kernel
theorem d_N_isFull_56 : decode b_N_isFull 56 = .ok (.if_icmp .lt 25, 3) := by decide +kernel
theorem d_N_isFull_59 : decode b_N_isFull 59 = .ok (.iconst 2, 1) := by decide +kernel
theorem d_N_isFull_60 : decode b_N_isFull 60 = .ok (.aload_n 0, 1) := by decide +kernel
theorem d_N_isFull_61 : decode b_N_isFull 61 = .ok (.getfield 19, 3) := by decide +kernel
theorem d_N_isFull_64 : decode b_N_isFull 64 = .ok (.aload_n 0, 1) := by decide +kernel
theorem d_N_isFull_65 : decode b_N_isFull 65 = .ok (.getfield 43, 3) := by decide +kernel
theorem d_N_isFull_68 : decode b_N_isFull 68 = .ok (.iaload, 1) := by decide +kernel
theorem d_N_isFull_69 : decode b_N_isFull 69 = .ok (.imul, 1) := by decide +kernel
theorem d_N_isFull_70 : decode b_N_isFull 70 = .ok (.aload_n 0, 1) := by decide +kernel
theorem d_N_isFull_71 : decode b_N_isFull 71 = .ok (.getfield 22, 3) := by decide +kernel
theorem d_N_isFull_74 : decode b_N_isFull 74 = .ok (.if_icmp .le 7, 3) := by decide +kernel
theorem d_N_isFull_77 : decode b_N_isFull 77 = .ok (.iconst 1, 1) := by decide +kernel
theorem d_N_isFull_78 : decode b_N_isFull 78 = .ok (.goto 4, 3) := by decide +kernel
theorem d_N_isFull_81 : decode b_N_isFull 81 = .ok (.iconst 0, 1) := by decide +kernel
theorem d_N_isFull_82 : decode b_N_isFull 82 = .ok (.ireturn, 1) := by decide +kernel
theorem d_N_find_0 : decode b_N_find 0 = .ok (.aload_n 0, 1) := by decide +kernel
theorem d_N_find_1 : decode b_N_find 1 = .ok (.iload_n 1, 1) := by decide +kernel
theorem d_N_find_2 : decode b_N_find 2 = .ok (.aload_n 0, 1) := by decide +kernel
theorem d_N_find_3 : decode b_N_find 3 = .ok (.getfield 43, 3) := by decide +kernel
theorem d_N_find_6 : decode b_N_find 6 = .ok (.invokevirtual 49, 3) := by decide +kernel
theorem d_N_find_9 : decode b_N_find 9 = .ok (.istore_n 2, 1) := by decide +kernel
theorem d_N_find_10 : decode b_N_find 10 = .ok (.iload_n 2, 1) := by decide +kernel
theorem d_N_find_11 : decode b_N_find 11 = .ok (.ifCond .lt 13, 3) := by decide +kernel
theorem d_N_find_14 : decode b_N_find 14 = .ok (.aload_n 0, 1) := by decide +kernel
theorem d_N_find_15 : decode b_N_find 15 = .ok (.aload_n 0, 1) := by decide +kernel
theorem d_N_find_16 : decode b_N_find 16 = .ok (.getfield 43, 3) := by decide +kernel
theorem d_N_find_19 : decode b_N_find 19 = .ok (.iload_n 2, 1) := by decide +kernel
theorem d_N_find_20 : decode b_N_find 20 = .ok (.invokevirtual 37, 3) := by decide +kernel
theorem d_N_find_23 : decode b_N_find 23 = .ok (.ireturn, 1) := by decide +kernel
theorem d_N_find_24 : decode b_N_find 24 = .ok (.aload_n 0, 1) := by decide +kernel
theorem d_N_find_25 : decode b_N_find 25 = .ok (.getfield 56, 3) := by decide +kernel
theorem d_N_find_28 : decode b_N_find 28 = .ok (.ifCond .eq 17, 3) := by decide +kernel
theorem d_N_find_31 : decode b_N_find 31 = .ok (.aload_n 0, 1) := by decide +kernel
theorem d_N_find_32 : decode b_N_find 32 = .ok (.iload_n 1, 1) := by decide +kernel
theorem d_N_find_33 : decode b_N_find 33 = .ok (.iconst 1, 1) := by decide +kernel
theorem d_N_find_34 : decode b_N_find 34 = .ok (.aload_n 0, 1) := by decide +kernel
theorem d_N_find_35 : decode b_N_find 35 = .ok (.getfield 43, 3) := by decide +kernel
theorem d_N_find_38 : decode b_N_find 38 = .ok (.isub, 1) := by decide +kernel
theorem d_N_find_39 : decode b_N_find 39 = .ok (.invokevirtual 49, 3) := by decide +kernel
theorem d_N_find_42 : decode b_N_find 42 = .ok (.goto 4, 3) := by decide +kernel
theorem d_N_find_45 : decode b_N_find 45 = .ok (.iconst (-1), 1) := by decide +kernel
theorem d_N_find_46 : decode b_N_find 46 = .ok (.istore_n 3, 1) := by decide +kernel
theorem d_N_find_47 : decode b_N_find 47 = .ok (.iload_n 3, 1) := by decide +kernel
theorem d_N_find_48 : decode b_N_find 48 = .ok (.ifCond .ge 7, 3) := by decide +kernel
theorem d_N_find_51 : decode b_N_find 51 = .ok (.iconst (-1), 1) := by decide +kernel
theorem d_N_find_52 : decode b_N_find 52 = .ok (.goto 14, 3) := by decide +kernel
theorem d_N_find_55 : decode b_N_find 55 = .ok (.aload_n 0, 1) := by decide +kernel
theorem d_N_find_56 : decode b_N_find 56 = .ok (.iconst 1, 1) := by decide +kernel
theorem d_N_find_57 : decode b_N_find 57 = .ok (.aload_n 0, 1) := by decide +kernel
theorem d_N_find_58 : decode b_N_find 58 = .ok (.getfield 43, 3) := by decide +kernel
theorem d_N_find_61 : decode b_N_find 61 = .ok (.isub, 1) := by decide +kernel
theorem d_N_find_62 : decode b_N_find 62 = .ok (.iload_n 3, 1) := by decide +kernel
theorem d_N_find_63 : decode b_N_find 63 = .ok (.invokevirtual 37, 3) := by decide +kernel
theorem d_N_find_66 : decode b_N_find 66 = .ok (.ireturn, 1) := by decide +kernel
theorem d_N_put_0 : decode b_N_put 0 = .ok (.aload_n 0, 1) := by decide +kernel
theorem d_N_put_1 : decode b_N_put 1 = .ok (.iconst 0, 1) := by decide +kernel
theorem d_N_put_2 : decode b_N_put 2 = .ok (.putfield 26, 3) := by decide +kernel
theorem d_N_put_5 : decode b_N_put 5 = .ok (.aload_n 0, 1) := by decide +kernel
theorem d_N_put_6 : decode b_N_put 6 = .ok (.iconst 0, 1) := by decide +kernel
theorem d_N_put_7 : decode b_N_put 7 = .ok (.putfield 34, 3) := by decide +kernel
theorem d_N_put_10 : decode b_N_put 10 = .ok (.aload_n 0, 1) := by decide +kernel
theorem d_N_put_11 : decode b_N_put 11 = .ok (.iload_n 1, 1) := by decide +kernel
theorem d_N_put_12 : decode b_N_put 12 = .ok (.aload_n 0, 1) := by decide +kernel
theorem d_N_put_13 : decode b_N_put 13 = .ok (.getfield 43, 3) := by decide +kernel
theorem d_N_put_16 : decode b_N_put 16 = .ok (.invokevirtual 49, 3) := by decide +kernel
theorem d_N_put_19 : decode b_N_put 19 = .ok (.istore_n 3, 1) := by decide +kernel
theorem d_N_put_20 : decode b_N_put 20 = .ok (.iload_n 3, 1) := by decide +kernel
theorem d_N_put_21 : decode b_N_put 21 = .ok (.ifCond .ge 24, 3) := by decide +kernel
theorem d_N_put_24 : decode b_N_put 24 = .ok (.aload_n 0, 1) := by decide +kernel
theorem d_N_put_25 : decode b_N_put 25 = .ok (.getfield 56, 3) := by decide +kernel
theorem d_N_put_28 : decode b_N_put 28 = .ok (.ifCond .eq 17, 3) := by decide +kernel
theorem d_N_put_31 : decode b_N_put 31 = .ok (.aload_n 0, 1) := by decide +kernel
theorem d_N_put_32 : decode b_N_put 32 = .ok (.iload_n 1, 1) := by decide +kernel
theorem d_N_put_33 : decode b_N_put 33 = .ok (.iconst 1, 1) := by decide +kernel
theorem d_N_put_34 : decode b_N_put 34 = .ok (.aload_n 0, 1) := by decide +kernel
theorem d_N_put_35 : decode b_N_put 35 = .ok (.getfield 43, 3) := by decide +kernel
theorem d_N_put_38 : decode b_N_put 38 = .ok (.isub, 1) := by decide +kernel
theorem d_N_put_39 : decode b_N_put 39 = .ok (.invokevirtual 49, 3) := by decide +kernel
theorem d_N_put_42 : decode b_N_put 42 = .ok (.goto 4, 3) := by decide +kernel
theorem d_N_put_45 : decode b_N_put 45 = .ok (.iconst (-1), 1) := by decide +kernel
theorem d_N_put_46 : decode b_N_put 46 = .ok (.istore 4, 2) := by decide +kernel
theorem d_N_put_48 : decode b_N_put 48 = .ok (.iconst 0, 1) := by decide +kernel
theorem d_N_put_49 : decode b_N_put 49 = .ok (.istore 5, 2) := by decide +kernel
theorem d_N_put_51 : decode b_N_put 51 = .ok (.iload_n 3, 1) := by decide +kernel
theorem d_N_put_52 : decode b_N_put 52 = .ok (.ifCond .ge 8, 3) := by decide +kernel
theorem d_N_put_55 : decode b_N_put 55 = .ok (.iload 4, 2) := by decide +kernel
theorem d_N_put_57 : decode b_N_put 57 = .ok (.ifCond .lt 40, 3) := by decide +kernel
theorem d_N_put_60 : decode b_N_put 60 = .ok (.aload_n 0, 1) := by decide +kernel
theorem d_N_put_61 : decode b_N_put 61 = .ok (.getfield 16, 3) := by decide +kernel
theorem d_N_put_64 : decode b_N_put 64 = .ok (.iload_n 3, 1) := by decide +kernel
theorem d_N_put_65 : decode b_N_put 65 = .ok (.ifCond .lt 15, 3) := by decide +kernel
theorem d_N_put_68 : decode b_N_put 68 = .ok (.aload_n 0, 1) := by decide +kernel
theorem d_N_put_69 : decode b_N_put 69 = .ok (.aload_n 0, 1) := by decide +kernel
theorem d_N_put_70 : decode b_N_put 70 = .ok (.getfield 43, 3) := by decide +kernel
theorem d_N_put_73 : decode b_N_put 73 = .ok (.iload_n 3, 1) := by decide +kernel
theorem d_N_put_74 : decode b_N_put 74 = .ok (.invokevirtual 37, 3) := by decide +kernel
theorem d_N_put_77 : decode b_N_put 77 = .ok (.goto 15, 3) := by decide +kernel
theorem d_N_put_80 : decode b_N_put 80 = .ok (.aload_n 0, 1) := by decide +kernel
theorem d_N_put_81 : decode b_N_put 81 = .ok (.iconst 1, 1) := by decide +kernel
theorem d_N_put_82 : decode b_N_put 82 = .ok (.aload_n 0, 1) := by decide +kernel
theorem d_N_put_83 : decode b_N_put 83 = .ok (.getfield 43, 3) := by decide +kernel
theorem d_N_put_86 : decode b_N_put 86 = .ok (.isub, 1) := by decide +kernel
theorem d_N_put_87 : decode b_N_put 87 = .ok (.iload 4, 2) := by decide +kernel
theorem d_N_put_89 : decode b_N_put 89 = .ok (.invokevirtual 37, 3) := by decide +kernel
theorem d_N_put_92 : decode b_N_put 92 = .ok (.iload_n 2, 1) := by decide +kernel
theorem d_N_put_93 : decode b_N_put 93 = .ok (.iastore, 1) := by decide +kernel
theorem d_N_put_94 : decode b_N_put 94 = .ok (.goto 44, 3) := by decide +kernel
theorem d_N_put_97 : decode b_N_put 97 = .ok (.aload_n 0, 1) := by decide +kernel
theorem d_N_put_98 : decode b_N_put 98 = .ok (.invokevirtual 70, 3) := by decide +kernel
theorem d_N_put_101 : decode b_N_put 101 = .ok (.ifCond .eq 10, 3) := by decide +kernel
theorem d_N_put_104 : decode b_N_put 104 = .ok (.ldc 74, 2) := by decide +kernel
theorem d_N_put_106 : decode b_N_put 106 = .ok (.istore 5, 2) := by decide +kernel
theorem d_N_put_108 : decode b_N_put 108 = .ok (.goto 30, 3) := by decide +kernel
theorem d_N_put_111 : decode b_N_put 111 = .ok (.aload_n 0, 1) := by decide +kernel
theorem d_N_put_112 : decode b_N_put 112 = .ok (.aload_n 0, 1) := by decide +kernel
theorem d_N_put_113 : decode b_N_put 113 = .ok (.getfield 43, 3) := by decide +kernel
theorem d_N_put_116 : decode b_N_put 116 = .ok (.iconst (-1), 1) := by decide +kernel
theorem d_N_put_117 : decode b_N_put 117 = .ok (.iload_n 3, 1) := by decide +kernel
theorem d_N_put_118 : decode b_N_put 118 = .ok (.isub, 1) := by decide +kernel
theorem d_N_put_119 : decode b_N_put 119 = .ok (.iload_n 1, 1) := by decide +kernel
theorem d_N_put_120 : decode b_N_put 120 = .ok (.iload_n 2, 1) := by decide +kernel
theorem d_N_put_121 : decode b_N_put 121 = .ok (.invokevirtual 52, 3) := by decide +kernel
theorem d_N_put_124 : decode b_N_put 124 = .ok (.aload_n 0, 1) := by decide +kernel
theorem d_N_put_125 : decode b_N_put 125 = .ok (.dup, 1) := by decide +kernel
theorem d_N_put_126 : decode b_N_put 126 = .ok (.getfield 63, 3) := by decide +kernel
theorem d_N_put_129 : decode b_N_put 129 = .ok (.iconst 1, 1) := by decide +kernel
theorem d_N_put_130 : decode b_N_put 130 = .ok (.iadd, 1) := by decide +kernel
theorem d_N_put_131 : decode b_N_put 131 = .ok (.putfield 63, 3) := by decide +kernel
theorem d_N_put_134 : decode b_N_put 134 = .ok (.aload_n 0, 1) := by decide +kernel
theorem d_N_put_135 : decode b_N_put 135 = .ok (.invokevirtual 75, 3) := by decide +kernel
theorem d_N_put_138 : decode b_N_put 138 = .ok (.aload_n 0, 1) := by decide +kernel
theorem d_N_put_139 : decode b_N_put 139 = .ok (.aload_n 0, 1) := by decide +kernel
theorem d_N_put_140 : decode b_N_put 140 = .ok (.getfield 34, 3) := by decide +kernel
theorem d_N_put_143 : decode b_N_put 143 = .ok (.putfield 78, 3) := by decide +kernel
theorem d_N_put_146 : decode b_N_put 146 = .ok (.iload 5, 2) := by decide +kernel
theorem d_N_put_148 : decode b_N_put 148 = .ok (.ireturn, 1) := by decide +kernel
theorem d_N_get_0 : decode b_N_get 0 = .ok (.aload_n 0, 1) := by decide +kernel
theorem d_N_get_1 : decode b_N_get 1 = .ok (.iconst 0, 1) := by decide +kernel
theorem d_N_get_2 : decode b_N_get 2 = .ok (.putfield 26, 3) := by decide +kernel
theorem d_N_get_5 : decode b_N_get 5 = .ok (.aload_n 0, 1) := by decide +kernel
theorem d_N_get_6 : decode b_N_get 6 = .ok (.iconst 0, 1) := by decide +kernel
theorem d_N_get_7 : decode b_N_get 7 = .ok (.putfield 34, 3) := by decide +kernel
theorem d_N_get_10 : decode b_N_get 10 = .ok (.aload_n 0, 1) := by decide +kernel
theorem d_N_get_11 : decode b_N_get 11 = .ok (.iload_n 1, 1) := by decide +kernel
theorem d_N_get_12 : decode b_N_get 12 = .ok (.invokevirtual 81, 3) := by decide +kernel
theorem d_N_get_15 : decode b_N_get 15 = .ok (.istore_n 2, 1) := by decide +kernel
theorem d_N_get_16 : decode b_N_get 16 = .ok (.aload_n 0, 1) := by decide +kernel
theorem d_N_get_17 : decode b_N_get 17 = .ok (.aload_n 0, 1) := by decide +kernel
theorem d_N_get_18 : decode b_N_get 18 = .ok (.getfield 34, 3) := by decide +kernel
theorem d_N_get_21 : decode b_N_get 21 = .ok (.putfield 78, 3) := by decide +kernel
theorem d_N_get_24 : decode b_N_get 24 = .ok (.iload_n 2, 1) := by decide +kernel
theorem d_N_get_25 : decode b_N_get 25 = .ok (.ifCond .ge 7, 3) := by decide +kernel
theorem d_N_get_28 : decode b_N_get 28 = .ok (.iconst 0, 1) := by decide +kernel
theorem d_N_get_29 : decode b_N_get 29 = .ok (.goto 9, 3) := by decide +kernel
theorem d_N_get_32 : decode b_N_get 32 = .ok (.aload_n 0, 1) := by decide +kernel
theorem d_N_get_33 : decode b_N_get 33 = .ok (.getfield 16, 3) := by decide +kernel
theorem d_N_get_36 : decode b_N_get 36 = .ok (.iload_n 2, 1) := by decide +kernel
theorem d_N_get_37 : decode b_N_get 37 = .ok (.iaload, 1) := by decide +kernel
theorem d_N_get_38 : decode b_N_get 38 = .ok (.ireturn, 1) := by decide +kernel
theorem d_N_has_0 : decode b_N_has 0 = .ok (.aload_n 0, 1) := by decide +kernel
theorem d_N_has_1 : decode b_N_has 1 = .ok (.iconst 0, 1) := by decide +kernel
theorem d_N_has_2 : decode b_N_has 2 = .ok (.putfield 26, 3) := by decide +kernel
theorem d_N_has_5 : decode b_N_has 5 = .ok (.aload_n 0, 1) := by decide +kernel
theorem d_N_has_6 : decode b_N_has 6 = .ok (.iconst 0, 1) := by decide +kernel
theorem d_N_has_7 : decode b_N_has 7 = .ok (.putfield 34, 3) := by decide +kernel
theorem d_N_has_10 : decode b_N_has 10 = .ok (.aload_n 0, 1) := by decide +kernel
theorem d_N_has_11 : decode b_N_has 11 = .ok (.iload_n 1, 1) := by decide +kernel
theorem d_N_has_12 : decode b_N_has 12 = .ok (.invokevirtual 81, 3) := by decide +kernel
theorem d_N_has_15 : decode b_N_has 15 = .ok (.istore_n 2, 1) := by decide +kernel
theorem d_N_has_16 : decode b_N_has 16 = .ok (.aload_n 0, 1) := by decide +kernel
theorem d_N_has_17 : decode b_N_has 17 = .ok (.aload_n 0, 1) := by decide +kernel
theorem d_N_has_18 : decode b_N_has 18 = .ok (.getfield 34, 3) := by decide +kernel
theorem d_N_has_21 : decode b_N_has 21 = .ok (.putfield 78, 3) := by decide +kernel
theorem d_N_has_24 : decode b_N_has 24 = .ok (.iload_n 2, 1) := by decide +kernel
theorem d_N_has_25 : decode b_N_has 25 = .ok (.ifCond .lt 7, 3) := by decide +kernel
theorem d_N_has_28 : decode b_N_has 28 = .ok (.iconst 1, 1) := by decide +kernel
theorem d_N_has_29 : decode b_N_has 29 = .ok (.goto 4, 3) := by decide +kernel
theorem d_N_has_32 : decode b_N_has 32 = .ok (.iconst 0, 1) := by decide +kernel
theorem d_N_has_33 : decode b_N_has 33 = .ok (.ireturn, 1) := by decide +kernel
theorem d_N_steps_0 : decode b_N_steps 0 = .ok (.iconst 0, 1) := by decide +kernel
theorem d_N_steps_1 : decode b_N_steps 1 = .ok (.istore_n 3, 1) := by decide +kernel
theorem d_N_steps_2 : decode b_N_steps 2 = .ok (.iload_n 1, 1) := by decide +kernel
theorem d_N_steps_3 : decode b_N_steps 3 = .ok (.istore 4, 2) := by decide +kernel
theorem d_N_steps_5 : decode b_N_steps 5 = .ok (.iload 4, 2) := by decide +kernel
theorem d_N_steps_7 : decode b_N_steps 7 = .ok (.iload_n 2, 1) := by decide +kernel
theorem d_N_steps_8 : decode b_N_steps 8 = .ok (.if_icmp .eq 21, 3) := by decide +kernel
theorem d_N_steps_11 : decode b_N_steps 11 = .ok (.aload_n 0, 1) := by decide +kernel
theorem d_N_steps_12 : decode b_N_steps 12 = .ok (.iload 4, 2) := by decide +kernel
theorem d_N_steps_14 : decode b_N_steps 14 = .ok (.aload_n 0, 1) := by decide +kernel
theorem d_N_steps_15 : decode b_N_steps 15 = .ok (.getfield 43, 3) := by decide +kernel
theorem d_N_steps_18 : decode b_N_steps 18 = .ok (.invokevirtual 40, 3) := by decide +kernel
theorem d_N_steps_21 : decode b_N_steps 21 = .ok (.istore 4, 2) := by decide +kernel
theorem d_N_steps_23 : decode b_N_steps 23 = .ok (.iinc 3 1, 3) := by decide +kernel
theorem d_N_steps_26 : decode b_N_steps 26 = .ok (.goto (-21), 3) := by decide +kernel
theorem d_N_steps_29 : decode b_N_steps 29 = .ok (.iload_n 3, 1) := by decide +kernel
theorem d_N_steps_30 : decode b_N_steps 30 = .ok (.ireturn, 1) := by decide +kernel
theorem d_N_free_0 : decode b_N_free 0 = .ok (.iload_n 1, 1) := by decide +kernel
theorem d_N_free_1 : decode b_N_free 1 = .ok (.istore_n 2, 1) := by decide +kernel
theorem d_N_free_2 : decode b_N_free 2 = .ok (.aload_n 0, 1) := by decide +kernel
theorem d_N_free_3 : decode b_N_free 3 = .ok (.iload_n 1, 1) := by decide +kernel
theorem d_N_free_4 : decode b_N_free 4 = .ok (.aload_n 0, 1) := by decide +kernel
theorem d_N_free_5 : decode b_N_free 5 = .ok (.getfield 43, 3) := by decide +kernel
theorem d_N_free_8 : decode b_N_free 8 = .ok (.invokevirtual 40, 3) := by decide +kernel
theorem d_N_free_11 : decode b_N_free 11 = .ok (.istore_n 3, 1) := by decide +kernel
theorem d_N_free_12 : decode b_N_free 12 = .ok (.aload_n 0, 1) := by decide +kernel
theorem d_N_free_13 : decode b_N_free 13 = .ok (.dup, 1) := by decide +kernel
theorem d_N_free_14 : decode b_N_free 14 = .ok (.getfield 34, 3) := by decide +kernel
theorem d_N_free_17 : decode b_N_free 17 = .ok (.iconst 1, 1) := by decide +kernel
theorem d_N_free_18 : decode b_N_free 18 = .ok (.iadd, 1) := by decide +kernel
theorem d_N_free_19 : decode b_N_free 19 = .ok (.putfield 34, 3) := by decide +kernel
theorem d_N_free_22 : decode b_N_free 22 = .ok (.aload_n 0, 1) := by decide +kernel
theorem d_N_free_23 : decode b_N_free 23 = .ok (.getfield 7, 3) := by decide +kernel
theorem d_N_free_26 : decode b_N_free 26 = .ok (.aload_n 0, 1) := by decide +kernel
theorem d_N_free_27 : decode b_N_free 27 = .ok (.aload_n 0, 1) := by decide +kernel
theorem d_N_free_28 : decode b_N_free 28 = .ok (.getfield 43, 3) := by decide +kernel
theorem d_N_free_31 : decode b_N_free 31 = .ok (.iload_n 3, 1) := by decide +kernel
theorem d_N_free_32 : decode b_N_free 32 = .ok (.invokevirtual 37, 3) := by decide +kernel
theorem d_N_free_35 : decode b_N_free 35 = .ok (.iaload, 1) := by decide +kernel
theorem d_N_free_36 : decode b_N_free 36 = .ok (.ifCond .eq 113, 3) := by decide +kernel
theorem d_N_free_39 : decode b_N_free 39 = .ok (.aload_n 0, 1) := by decide +kernel
theorem d_N_free_40 : decode b_N_free 40 = .ok (.aload_n 0, 1) := by decide +kernel
theorem d_N_free_41 : decode b_N_free 41 = .ok (.aload_n 0, 1) := by decide +kernel
theorem d_N_free_42 : decode b_N_free 42 = .ok (.getfield 13, 3) := by decide +kernel
theorem d_N_free_45 : decode b_N_free 45 = .ok (.aload_n 0, 1) := by decide +kernel
theorem d_N_free_46 : decode b_N_free 46 = .ok (.aload_n 0, 1) := by decide +kernel
theorem d_N_free_47 : decode b_N_free 47 = .ok (.getfield 43, 3) := by decide +kernel
theorem d_N_free_50 : decode b_N_free 50 = .ok (.iload_n 3, 1) := by decide +kernel
theorem d_N_free_51 : decode b_N_free 51 = .ok (.invokevirtual 37, 3) := by decide +kernel
theorem d_N_free_54 : decode b_N_free 54 = .ok (.iaload, 1) := by decide +kernel
theorem d_N_free_55 : decode b_N_free 55 = .ok (.aload_n 0, 1) := by decide +kernel
theorem d_N_free_56 : decode b_N_free 56 = .ok (.getfield 43, 3) := by decide +kernel
theorem d_N_free_59 : decode b_N_free 59 = .ok (.invokevirtual 30, 3) := by decide +kernel
theorem d_N_free_62 : decode b_N_free 62 = .ok (.iload_n 3, 1) := by decide +kernel
theorem d_N_free_63 : decode b_N_free 63 = .ok (.invokevirtual 85, 3) := by decide +kernel
theorem d_N_free_66 : decode b_N_free 66 = .ok (.aload_n 0, 1) := by decide +kernel
theorem d_N_free_67 : decode b_N_free 67 = .ok (.iload_n 2, 1) := by decide +kernel
theorem d_N_free_68 : decode b_N_free 68 = .ok (.iload_n 3, 1) := by decide +kernel
theorem d_N_free_69 : decode b_N_free 69 = .ok (.invokevirtual 85, 3) := by decide +kernel
theorem d_N_free_72 : decode b_N_free 72 = .ok (.if_icmp .ge 7, 3) := by decide +kernel
theorem d_N_free_75 : decode b_N_free 75 = .ok (.iconst 1, 1) := by decide +kernel
theorem d_N_free_76 : decode b_N_free 76 = .ok (.goto 4, 3) := by decide +kernel
theorem d_N_free_79 : decode b_N_free 79 = .ok (.iconst 0, 1) := by decide +kernel
theorem d_N_free_80 : decode b_N_free 80 = .ok (.istore 4, 2) := by decide +kernel
theorem d_N_free_82 : decode b_N_free 82 = .ok (.iload 4, 2) := by decide +kernel
theorem d_N_free_84 : decode b_N_free 84 = .ok (.ifCond .ne 42, 3) := by decide +kernel
theorem d_N_free_87 : decode b_N_free 87 = .ok (.aload_n 0, 1) := by decide +kernel
theorem d_N_free_88 : decode b_N_free 88 = .ok (.aload_n 0, 1) := by decide +kernel
theorem d_N_free_89 : decode b_N_free 89 = .ok (.getfield 43, 3) := by decide +kernel
theorem d_N_free_92 : decode b_N_free 92 = .ok (.iload_n 2, 1) := by decide +kernel
theorem d_N_free_93 : decode b_N_free 93 = .ok (.aload_n 0, 1) := by decide +kernel
theorem d_N_free_94 : decode b_N_free 94 = .ok (.getfield 13, 3) := by decide +kernel
theorem d_N_free_97 : decode b_N_free 97 = .ok (.aload_n 0, 1) := by decide +kernel
theorem d_N_free_98 : decode b_N_free 98 = .ok (.aload_n 0, 1) := by decide +kernel
theorem d_N_free_99 : decode b_N_free 99 = .ok (.getfield 43, 3) := by decide +kernel
theorem d_N_free_102 : decode b_N_free 102 = .ok (.iload_n 3, 1) := by decide +kernel
theorem d_N_free_103 : decode b_N_free 103 = .ok (.invokevirtual 37, 3) := by decide +kernel
theorem d_N_free_106 : decode b_N_free 106 = .ok (.iaload, 1) := by decide +kernel
theorem d_N_free_107 : decode b_N_free 107 = .ok (.aload_n 0, 1) := by decide +kernel
theorem d_N_free_108 : decode b_N_free 108 = .ok (.getfield 16, 3) := by decide +kernel
theorem d_N_free_111 : decode b_N_free 111 = .ok (.aload_n 0, 1) := by decide +kernel
theorem d_N_free_112 : decode b_N_free 112 = .ok (.aload_n 0, 1) := by decide +kernel
theorem d_N_free_113 : decode b_N_free 113 = .ok (.getfield 43, 3) := by decide +kernel
theorem d_N_free_116 : decode b_N_free 116 = .ok (.iload_n 3, 1) := by decide +kernel
theorem d_N_free_117 : decode b_N_free 117 = .ok (.invokevirtual 37, 3) := by decide +kernel
theorem d_N_free_120 : decode b_N_free 120 = .ok (.iaload, 1) := by decide +kernel
theorem d_N_free_121 : decode b_N_free 121 = .ok (.invokevirtual 52, 3) := by decide +kernel
theorem d_N_free_124 : decode b_N_free 124 = .ok (.iload_n 3, 1) := by decide +kernel
theorem d_N_free_125 : decode b_N_free 125 = .ok (.istore_n 2, 1) := by decide +kernel
theorem d_N_free_126 : decode b_N_free 126 = .ok (.aload_n 0, 1) := by decide +kernel
theorem d_N_free_127 : decode b_N_free 127 = .ok (.iload_n 3, 1) := by decide +kernel
theorem d_N_free_128 : decode b_N_free 128 = .ok (.aload_n 0, 1) := by decide +kernel
theorem d_N_free_129 : decode b_N_free 129 = .ok (.getfield 43, 3) := by decide +kernel
theorem d_N_free_132 : decode b_N_free 132 = .ok (.invokevirtual 40, 3) := by decide +kernel
theorem d_N_free_135 : decode b_N_free 135 = .ok (.istore_n 3, 1) := by decide +kernel
theorem d_N_free_136 : decode b_N_free 136 = .ok (.aload_n 0, 1) := by decide +kernel
theorem d_N_free_137 : decode b_N_free 137 = .ok (.dup, 1) := by decide +kernel
theorem d_N_free_138 : decode b_N_free 138 = .ok (.getfield 34, 3) := by decide +kernel
theorem d_N_free_141 : decode b_N_free 141 = .ok (.iconst 1, 1) := by decide +kernel
theorem d_N_free_142 : decode b_N_free 142 = .ok (.iadd, 1) := by decide +kernel
theorem d_N_free_143 : decode b_N_free 143 = .ok (.putfield 34, 3) := by decide +kernel
theorem d_N_free_146 : decode b_N_free 146 = .ok (.goto (-124), 3) := by decide +kernel
theorem d_N_free_149 : decode b_N_free 149 = .ok (.aload_n 0, 1) := by decide +kernel
theorem d_N_free_150 : decode b_N_free 150 = .ok (.getfield 7, 3) := by decide +kernel
theorem d_N_free_153 : decode b_N_free 153 = .ok (.aload_n 0, 1) := by decide +kernel
theorem d_N_free_154 : decode b_N_free 154 = .ok (.aload_n 0, 1) := by decide +kernel
theorem d_N_free_155 : decode b_N_free 155 = .ok (.getfield 43, 3) := by decide +kernel
theorem d_N_free_158 : decode b_N_free 158 = .ok (.iload_n 2, 1) := by decide +kernel
theorem d_N_free_159 : decode b_N_free 159 = .ok (.invokevirtual 37, 3) := by decide +kernel
theorem d_N_free_162 : decode b_N_free 162 = .ok (.iconst 0, 1) := by decide +kernel
theorem d_N_free_163 : decode b_N_free 163 = .ok (.iastore, 1) := by decide +kernel
theorem d_N_free_164 : decode b_N_free 164 = .ok (.return_, 1) := by decide +kernel
theorem d_N_remove_0 : decode b_N_remove 0 = .ok (.aload_n 0, 1) := by decide +kernel
theorem d_N_remove_1 : decode b_N_remove 1 = .ok (.iconst 0, 1) := by decide +kernel
theorem d_N_remove_2 : decode b_N_remove 2 = .ok (.putfield 26, 3) := by decide +kernel
theorem d_N_remove_5 : decode b_N_remove 5 = .ok (.aload_n 0, 1) := by decide +kernel
theorem d_N_remove_6 : decode b_N_remove 6 = .ok (.iconst 0, 1) := by decide +kernel
theorem d_N_remove_7 : decode b_N_remove 7 = .ok (.putfield 34, 3) := by decide +kernel
theorem d_N_remove_10 : decode b_N_remove 10 = .ok (.aload_n 0, 1) := by decide +kernel
theorem d_N_remove_11 : decode b_N_remove 11 = .ok (.iload_n 1, 1) := by decide +kernel
theorem d_N_remove_12 : decode b_N_remove 12 = .ok (.aload_n 0, 1) := by decide +kernel
theorem d_N_remove_13 : decode b_N_remove 13 = .ok (.getfield 43, 3) := by decide +kernel
theorem d_N_remove_16 : decode b_N_remove 16 = .ok (.invokevirtual 49, 3) := by decide +kernel
theorem d_N_remove_19 : decode b_N_remove 19 = .ok (.istore_n 2, 1) := by decide +kernel
theorem d_N_remove_20 : decode b_N_remove 20 = .ok (.iload_n 2, 1) := by decide +kernel
theorem d_N_remove_21 : decode b_N_remove 21 = .ok (.ifCond .ge 24, 3) := by decide +kernel
theorem d_N_remove_24 : decode b_N_remove 24 = .ok (.aload_n 0, 1) := by decide +kernel
theorem d_N_remove_25 : decode b_N_remove 25 = .ok (.getfield 56, 3) := by decide +kernel
theorem d_N_remove_28 : decode b_N_remove 28 = .ok (.ifCond .eq 17, 3) := by decide +kernel
theorem d_N_remove_31 : decode b_N_remove 31 = .ok (.aload_n 0, 1) := by decide +kernel
theorem d_N_remove_32 : decode b_N_remove 32 = .ok (.iload_n 1, 1) := by decide +kernel
theorem d_N_remove_33 : decode b_N_remove 33 = .ok (.iconst 1, 1) := by decide +kernel
theorem d_N_remove_34 : decode b_N_remove 34 = .ok (.aload_n 0, 1) := by decide +kernel
theorem d_N_remove_35 : decode b_N_remove 35 = .ok (.getfield 43, 3) := by decide +kernel
theorem d_N_remove_38 : decode b_N_remove 38 = .ok (.isub, 1) := by decide +kernel
theorem d_N_remove_39 : decode b_N_remove 39 = .ok (.invokevirtual 49, 3) := by decide +kernel
theorem d_N_remove_42 : decode b_N_remove 42 = .ok (.goto 4, 3) := by decide +kernel
theorem d_N_remove_45 : decode b_N_remove 45 = .ok (.iconst (-1), 1) := by decide +kernel
theorem d_N_remove_46 : decode b_N_remove 46 = .ok (.istore_n 3, 1) := by decide +kernel
theorem d_N_remove_47 : decode b_N_remove 47 = .ok (.iload_n 2, 1) := by decide +kernel
theorem d_N_remove_48 : decode b_N_remove 48 = .ok (.ifCond .lt 11, 3) := by decide +kernel
theorem d_N_remove_51 : decode b_N_remove 51 = .ok (.aload_n 0, 1) := by decide +kernel
theorem d_N_remove_52 : decode b_N_remove 52 = .ok (.iload_n 2, 1) := by decide +kernel
theorem d_N_remove_53 : decode b_N_remove 53 = .ok (.invokevirtual 88, 3) := by decide +kernel
theorem d_N_remove_56 : decode b_N_remove 56 = .ok (.goto 24, 3) := by decide +kernel
theorem d_N_remove_59 : decode b_N_remove 59 = .ok (.iload_n 3, 1) := by decide +kernel
theorem d_N_remove_60 : decode b_N_remove 60 = .ok (.ifCond .lt 20, 3) := by decide +kernel
theorem d_N_remove_63 : decode b_N_remove 63 = .ok (.aload_n 0, 1) := by decide +kernel
theorem d_N_remove_64 : decode b_N_remove 64 = .ok (.getfield 7, 3) := by decide +kernel
theorem d_N_remove_67 : decode b_N_remove 67 = .ok (.aload_n 0, 1) := by decide +kernel
theorem d_N_remove_68 : decode b_N_remove 68 = .ok (.iconst 1, 1) := by decide +kernel
theorem d_N_remove_69 : decode b_N_remove 69 = .ok (.aload_n 0, 1) := by decide +kernel
theorem d_N_remove_70 : decode b_N_remove 70 = .ok (.getfield 43, 3) := by decide +kernel
theorem d_N_remove_73 : decode b_N_remove 73 = .ok (.isub, 1) := by decide +kernel
theorem d_N_remove_74 : decode b_N_remove 74 = .ok (.iload_n 3, 1) := by decide +kernel
theorem d_N_remove_75 : decode b_N_remove 75 = .ok (.invokevirtual 37, 3) := by decide +kernel
theorem d_N_remove_78 : decode b_N_remove 78 = .ok (.iconst 2, 1) := by decide +kernel
theorem d_N_remove_79 : decode b_N_remove 79 = .ok (.iastore, 1) := by decide +kernel
theorem d_N_remove_80 : decode b_N_remove 80 = .ok (.iload_n 2, 1) := by decide +kernel
theorem d_N_remove_81 : decode b_N_remove 81 = .ok (.ifCond .ge 7, 3) := by decide +kernel
theorem d_N_remove_84 : decode b_N_remove 84 = .ok (.iload_n 3, 1) := by decide +kernel
theorem d_N_remove_85 : decode b_N_remove 85 = .ok (.ifCond .lt 17, 3) := by decide +kernel
theorem d_N_remove_88 : decode b_N_remove 88 = .ok (.aload_n 0, 1) := by decide +kernel
theorem d_N_remove_89 : decode b_N_remove 89 = .ok (.dup, 1) := by decide +kernel
theorem d_N_remove_90 : decode b_N_remove 90 = .ok (.getfield 63, 3) := by decide +kernel
theorem d_N_remove_93 : decode b_N_remove 93 = .ok (.iconst 1, 1) := by decide +kernel
theorem d_N_remove_94 : decode b_N_remove 94 = .ok (.isub, 1) := by decide +kernel
theorem d_N_remove_95 : decode b_N_remove 95 = .ok (.putfield 63, 3) := by decide +kernel
theorem d_N_remove_98 : decode b_N_remove 98 = .ok (.aload_n 0, 1) := by decide +kernel
theorem d_N_remove_99 : decode b_N_remove 99 = .ok (.invokevirtual 75, 3) := by decide +kernel
theorem d_N_remove_102 : decode b_N_remove 102 = .ok (.aload_n 0, 1) := by decide +kernel
theorem d_N_remove_103 : decode b_N_remove 103 = .ok (.aload_n 0, 1) := by decide +kernel
theorem d_N_remove_104 : decode b_N_remove 104 = .ok (.getfield 34, 3) := by decide +kernel
theorem d_N_remove_107 : decode b_N_remove 107 = .ok (.putfield 78, 3) := by decide +kernel
theorem d_N_remove_110 : decode b_N_remove 110 = .ok (.iload_n 2, 1) := by decide +kernel
theorem d_N_remove_111 : decode b_N_remove 111 = .ok (.ifCond .ge 7, 3) := by decide +kernel
theorem d_N_remove_114 : decode b_N_remove 114 = .ok (.iload_n 3, 1) := by decide +kernel
theorem d_N_remove_115 : decode b_N_remove 115 = .ok (.ifCond .lt 7, 3) := by decide +kernel
theorem d_N_remove_118 : decode b_N_remove 118 = .ok (.iconst 1, 1) := by decide +kernel
theorem d_N_remove_119 : decode b_N_remove 119 = .ok (.goto 4, 3) := by decide +kernel
theorem d_N_remove_122 : decode b_N_remove 122 = .ok (.iconst 0, 1) := by decide +kernel
theorem d_N_remove_123 : decode b_N_remove 123 = .ok (.ireturn, 1) := by decide +kernel
theorem d_N_size_0 : decode b_N_size 0 = .ok (.aload_n 0, 1) := by decide +kernel
theorem d_N_size_1 : decode b_N_size 1 = .ok (.iconst 0, 1) := by decide +kernel
theorem d_N_size_2 : decode b_N_size 2 = .ok (.putfield 26, 3) := by decide +kernel
theorem d_N_size_5 : decode b_N_size 5 = .ok (.aload_n 0, 1) := by decide +kernel
theorem d_N_size_6 : decode b_N_size 6 = .ok (.getfield 63, 3) := by decide +kernel
theorem d_N_size_9 : decode b_N_size 9 = .ok (.ireturn, 1) := by decide +kernel
theorem d_N_capacity_0 : decode b_N_capacity 0 = .ok (.aload_n 0, 1) := by decide +kernel
theorem d_N_capacity_1 : decode b_N_capacity 1 = .ok (.iconst 0, 1) := by decide +kernel
theorem d_N_capacity_2 : decode b_N_capacity 2 = .ok (.putfield 26, 3) := by decide +kernel
theorem d_N_capacity_5 : decode b_N_capacity 5 = .ok (.aload_n 0, 1) := by decide +kernel
theorem d_N_capacity_6 : decode b_N_capacity 6 = .ok (.getfield 19, 3) := by decide +kernel
theorem d_N_capacity_9 : decode b_N_capacity 9 = .ok (.aload_n 0, 1) := by decide +kernel
theorem d_N_capacity_10 : decode b_N_capacity 10 = .ok (.getfield 43, 3) := by decide +kernel
theorem d_N_capacity_13 : decode b_N_capacity 13 = .ok (.iaload, 1) := by decide +kernel
theorem d_N_capacity_14 : decode b_N_capacity 14 = .ok (.ireturn, 1) := by decide +kernel
theorem d_N_migrating_0 : decode b_N_migrating 0 = .ok (.aload_n 0, 1) := by decide +kernel
theorem d_N_migrating_1 : decode b_N_migrating 1 = .ok (.iconst 0, 1) := by decide +kernel
theorem d_N_migrating_2 : decode b_N_migrating 2 = .ok (.putfield 26, 3) := by decide +kernel
theorem d_N_migrating_5 : decode b_N_migrating 5 = .ok (.aload_n 0, 1) := by decide +kernel
theorem d_N_migrating_6 : decode b_N_migrating 6 = .ok (.getfield 56, 3) := by decide +kernel
theorem d_N_migrating_9 : decode b_N_migrating 9 = .ok (.ireturn, 1) := by decide +kernel
theorem d_N_lastWork_0 : decode b_N_lastWork 0 = .ok (.aload_n 0, 1) := by decide +kernel
theorem d_N_lastWork_1 : decode b_N_lastWork 1 = .ok (.iconst 0, 1) := by decide +kernel
theorem d_N_lastWork_2 : decode b_N_lastWork 2 = .ok (.putfield 26, 3) := by decide +kernel
theorem d_N_lastWork_5 : decode b_N_lastWork 5 = .ok (.aload_n 0, 1) := by decide +kernel
theorem d_N_lastWork_6 : decode b_N_lastWork 6 = .ok (.getfield 78, 3) := by decide +kernel
theorem d_N_lastWork_9 : decode b_N_lastWork 9 = .ok (.ireturn, 1) := by decide +kernel
theorem d_N_slot_0 : decode b_N_slot 0 = .ok (.aload_n 0, 1) := by decide +kernel
theorem d_N_slot_1 : decode b_N_slot 1 = .ok (.iconst 0, 1) := by decide +kernel
theorem d_N_slot_2 : decode b_N_slot 2 = .ok (.putfield 26, 3) := by decide +kernel
theorem d_N_slot_5 : decode b_N_slot 5 = .ok (.aload_n 0, 1) := by decide +kernel
theorem d_N_slot_6 : decode b_N_slot 6 = .ok (.iload_n 1, 1) := by decide +kernel
theorem d_N_slot_7 : decode b_N_slot 7 = .ok (.invokevirtual 81, 3) := by decide +kernel
theorem d_N_slot_10 : decode b_N_slot 10 = .ok (.istore_n 2, 1) := by decide +kernel
theorem d_N_slot_11 : decode b_N_slot 11 = .ok (.iload_n 2, 1) := by decide +kernel
theorem d_N_slot_12 : decode b_N_slot 12 = .ok (.ifCond .ge 7, 3) := by decide +kernel
theorem d_N_slot_15 : decode b_N_slot 15 = .ok (.iconst (-1), 1) := by decide +kernel
theorem d_N_slot_16 : decode b_N_slot 16 = .ok (.goto 32, 3) := by decide +kernel
theorem d_N_slot_19 : decode b_N_slot 19 = .ok (.iload_n 2, 1) := by decide +kernel
theorem d_N_slot_20 : decode b_N_slot 20 = .ok (.sipush 1024, 3) := by decide +kernel
theorem d_N_slot_23 : decode b_N_slot 23 = .ok (.idiv, 1) := by decide +kernel
theorem d_N_slot_24 : decode b_N_slot 24 = .ok (.aload_n 0, 1) := by decide +kernel
theorem d_N_slot_25 : decode b_N_slot 25 = .ok (.getfield 43, 3) := by decide +kernel
theorem d_N_slot_28 : decode b_N_slot 28 = .ok (.if_icmp .ne 11, 3) := by decide +kernel
theorem d_N_slot_31 : decode b_N_slot 31 = .ok (.iload_n 2, 1) := by decide +kernel
theorem d_N_slot_32 : decode b_N_slot 32 = .ok (.sipush 1024, 3) := by decide +kernel
theorem d_N_slot_35 : decode b_N_slot 35 = .ok (.irem, 1) := by decide +kernel
theorem d_N_slot_36 : decode b_N_slot 36 = .ok (.goto 12, 3) := by decide +kernel
theorem d_N_slot_39 : decode b_N_slot 39 = .ok (.sipush 2000, 3) := by decide +kernel
theorem d_N_slot_42 : decode b_N_slot 42 = .ok (.iload_n 2, 1) := by decide +kernel
theorem d_N_slot_43 : decode b_N_slot 43 = .ok (.sipush 1024, 3) := by decide +kernel
theorem d_N_slot_46 : decode b_N_slot 46 = .ok (.irem, 1) := by decide +kernel
theorem d_N_slot_47 : decode b_N_slot 47 = .ok (.iadd, 1) := by decide +kernel
theorem d_N_slot_48 : decode b_N_slot 48 = .ok (.ireturn, 1) := by decide +kernel
theorem d_N_cursor_0 : decode b_N_cursor 0 = .ok (.aload_n 0, 1) := by decide +kernel
theorem d_N_cursor_1 : decode b_N_cursor 1 = .ok (.iconst 0, 1) := by decide +kernel
theorem d_N_cursor_2 : decode b_N_cursor 2 = .ok (.putfield 26, 3) := by decide +kernel
theorem d_N_cursor_5 : decode b_N_cursor 5 = .ok (.aload_n 0, 1) := by decide +kernel
theorem d_N_cursor_6 : decode b_N_cursor 6 = .ok (.getfield 56, 3) := by decide +kernel
theorem d_N_cursor_9 : decode b_N_cursor 9 = .ok (.ifCond .eq 10, 3) := by decide +kernel
theorem d_N_cursor_12 : decode b_N_cursor 12 = .ok (.aload_n 0, 1) := by decide +kernel
theorem d_N_cursor_13 : decode b_N_cursor 13 = .ok (.getfield 46, 3) := by decide +kernel
theorem d_N_cursor_16 : decode b_N_cursor 16 = .ok (.goto 4, 3) := by decide +kernel
theorem d_N_cursor_19 : decode b_N_cursor 19 = .ok (.iconst (-1), 1) := by decide +kernel
theorem d_N_cursor_20 : decode b_N_cursor 20 = .ok (.ireturn, 1) := by decide +kernel
end
section
theorem d_L_law_0 : decode code 0 = .ok (.new 7, 3) := by decide +kernel
theorem d_L_law_3 : decode code 3 = .ok (.dup, 1) := by decide +kernel
theorem d_L_law_4 : decode code 4 = .ok (.aload_n 0, 1) := by decide +kernel
theorem d_L_law_5 : decode code 5 = .ok (.iconst 0, 1) := by decide +kernel
theorem d_L_law_6 : decode code 6 = .ok (.invokestatic 9, 3) := by decide +kernel
theorem d_L_law_9 : decode code 9 = .ok (.invokespecial 15, 3) := by decide +kernel
theorem d_L_law_12 : decode code 12 = .ok (.astore_n 1, 1) := by decide +kernel
theorem d_L_law_13 : decode code 13 = .ok (.new 18, 3) := by decide +kernel
theorem d_L_law_16 : decode code 16 = .ok (.dup, 1) := by decide +kernel
theorem d_L_law_17 : decode code 17 = .ok (.aload_n 0, 1) := by decide +kernel
theorem d_L_law_18 : decode code 18 = .ok (.iconst 0, 1) := by decide +kernel
theorem d_L_law_19 : decode code 19 = .ok (.invokestatic 9, 3) := by decide +kernel
theorem d_L_law_22 : decode code 22 = .ok (.invokespecial 20, 3) := by decide +kernel
theorem d_L_law_25 : decode code 25 = .ok (.astore_n 2, 1) := by decide +kernel
theorem d_L_law_26 : decode code 26 = .ok (.iconst 1, 1) := by decide +kernel
theorem d_L_law_27 : decode code 27 = .ok (.istore_n 3, 1) := by decide +kernel
theorem d_L_law_28 : decode code 28 = .ok (.iload_n 3, 1) := by decide +kernel
theorem d_L_law_29 : decode code 29 = .ok (.aload_n 0, 1) := by decide +kernel
theorem d_L_law_30 : decode code 30 = .ok (.arraylength, 1) := by decide +kernel
theorem d_L_law_31 : decode code 31 = .ok (.iconst 3, 1) := by decide +kernel
theorem d_L_law_32 : decode code 32 = .ok (.isub, 1) := by decide +kernel
theorem d_L_law_33 : decode code 33 = .ok (.if_icmp .gt 259, 3) := by decide +kernel
theorem d_L_law_36 : decode code 36 = .ok (.aload_n 0, 1) := by decide +kernel
theorem d_L_law_37 : decode code 37 = .ok (.iload_n 3, 1) := by decide +kernel
theorem d_L_law_38 : decode code 38 = .ok (.iaload, 1) := by decide +kernel
theorem d_L_law_39 : decode code 39 = .ok (.bipush 15, 2) := by decide +kernel
theorem d_L_law_41 : decode code 41 = .ok (.iand, 1) := by decide +kernel
theorem d_L_law_42 : decode code 42 = .ok (.tableswitch 244 0 9 #[54, 87, 110, 133, 156, 169, 182, 195, 208, 231], 54) := by decide +kernel
theorem d_L_law_96 : decode code 96 = .ok (.aload_n 1, 1) := by decide +kernel
theorem d_L_law_97 : decode code 97 = .ok (.aload_n 0, 1) := by decide +kernel
theorem d_L_law_98 : decode code 98 = .ok (.iload_n 3, 1) := by decide +kernel
theorem d_L_law_99 : decode code 99 = .ok (.iconst 1, 1) := by decide +kernel
theorem d_L_law_100 : decode code 100 = .ok (.iadd, 1) := by decide +kernel
theorem d_L_law_101 : decode code 101 = .ok (.iaload, 1) := by decide +kernel
theorem d_L_law_102 : decode code 102 = .ok (.aload_n 0, 1) := by decide +kernel
theorem d_L_law_103 : decode code 103 = .ok (.iload_n 3, 1) := by decide +kernel
theorem d_L_law_104 : decode code 104 = .ok (.iconst 2, 1) := by decide +kernel
theorem d_L_law_105 : decode code 105 = .ok (.iadd, 1) := by decide +kernel
theorem d_L_law_106 : decode code 106 = .ok (.iaload, 1) := by decide +kernel
theorem d_L_law_107 : decode code 107 = .ok (.invokevirtual 21, 3) := by decide +kernel
theorem d_L_law_110 : decode code 110 = .ok (.aload_n 2, 1) := by decide +kernel
theorem d_L_law_111 : decode code 111 = .ok (.aload_n 0, 1) := by decide +kernel
theorem d_L_law_112 : decode code 112 = .ok (.iload_n 3, 1) := by decide +kernel
theorem d_L_law_113 : decode code 113 = .ok (.iconst 1, 1) := by decide +kernel
theorem d_L_law_114 : decode code 114 = .ok (.iadd, 1) := by decide +kernel
theorem d_L_law_115 : decode code 115 = .ok (.iaload, 1) := by decide +kernel
theorem d_L_law_116 : decode code 116 = .ok (.aload_n 0, 1) := by decide +kernel
theorem d_L_law_117 : decode code 117 = .ok (.iload_n 3, 1) := by decide +kernel
theorem d_L_law_118 : decode code 118 = .ok (.iconst 2, 1) := by decide +kernel
theorem d_L_law_119 : decode code 119 = .ok (.iadd, 1) := by decide +kernel
theorem d_L_law_120 : decode code 120 = .ok (.iaload, 1) := by decide +kernel
theorem d_L_law_121 : decode code 121 = .ok (.invokevirtual 25, 3) := by decide +kernel
theorem d_L_law_124 : decode code 124 = .ok (.if_icmp .eq 162, 3) := by decide +kernel
theorem d_L_law_127 : decode code 127 = .ok (.iconst 0, 1) := by decide +kernel
theorem d_L_law_128 : decode code 128 = .ok (.ireturn, 1) := by decide +kernel
theorem d_L_law_129 : decode code 129 = .ok (.aload_n 1, 1) := by decide +kernel
theorem d_L_law_130 : decode code 130 = .ok (.aload_n 0, 1) := by decide +kernel
theorem d_L_law_131 : decode code 131 = .ok (.iload_n 3, 1) := by decide +kernel
theorem d_L_law_132 : decode code 132 = .ok (.iconst 1, 1) := by decide +kernel
theorem d_L_law_133 : decode code 133 = .ok (.iadd, 1) := by decide +kernel
theorem d_L_law_134 : decode code 134 = .ok (.iaload, 1) := by decide +kernel
theorem d_L_law_135 : decode code 135 = .ok (.invokevirtual 26, 3) := by decide +kernel
theorem d_L_law_138 : decode code 138 = .ok (.aload_n 2, 1) := by decide +kernel
theorem d_L_law_139 : decode code 139 = .ok (.aload_n 0, 1) := by decide +kernel
theorem d_L_law_140 : decode code 140 = .ok (.iload_n 3, 1) := by decide +kernel
theorem d_L_law_141 : decode code 141 = .ok (.iconst 1, 1) := by decide +kernel
theorem d_L_law_142 : decode code 142 = .ok (.iadd, 1) := by decide +kernel
theorem d_L_law_143 : decode code 143 = .ok (.iaload, 1) := by decide +kernel
theorem d_L_law_144 : decode code 144 = .ok (.invokevirtual 30, 3) := by decide +kernel
theorem d_L_law_147 : decode code 147 = .ok (.if_icmp .eq 139, 3) := by decide +kernel
theorem d_L_law_150 : decode code 150 = .ok (.iconst 0, 1) := by decide +kernel
theorem d_L_law_151 : decode code 151 = .ok (.ireturn, 1) := by decide +kernel
theorem d_L_law_152 : decode code 152 = .ok (.aload_n 1, 1) := by decide +kernel
theorem d_L_law_153 : decode code 153 = .ok (.aload_n 0, 1) := by decide +kernel
theorem d_L_law_154 : decode code 154 = .ok (.iload_n 3, 1) := by decide +kernel
theorem d_L_law_155 : decode code 155 = .ok (.iconst 1, 1) := by decide +kernel
theorem d_L_law_156 : decode code 156 = .ok (.iadd, 1) := by decide +kernel
theorem d_L_law_157 : decode code 157 = .ok (.iaload, 1) := by decide +kernel
theorem d_L_law_158 : decode code 158 = .ok (.invokevirtual 31, 3) := by decide +kernel
theorem d_L_law_161 : decode code 161 = .ok (.aload_n 2, 1) := by decide +kernel
theorem d_L_law_162 : decode code 162 = .ok (.aload_n 0, 1) := by decide +kernel
theorem d_L_law_163 : decode code 163 = .ok (.iload_n 3, 1) := by decide +kernel
theorem d_L_law_164 : decode code 164 = .ok (.iconst 1, 1) := by decide +kernel
theorem d_L_law_165 : decode code 165 = .ok (.iadd, 1) := by decide +kernel
theorem d_L_law_166 : decode code 166 = .ok (.iaload, 1) := by decide +kernel
theorem d_L_law_167 : decode code 167 = .ok (.invokevirtual 35, 3) := by decide +kernel
theorem d_L_law_170 : decode code 170 = .ok (.if_icmp .eq 116, 3) := by decide +kernel
theorem d_L_law_173 : decode code 173 = .ok (.iconst 0, 1) := by decide +kernel
theorem d_L_law_174 : decode code 174 = .ok (.ireturn, 1) := by decide +kernel
theorem d_L_law_175 : decode code 175 = .ok (.aload_n 1, 1) := by decide +kernel
theorem d_L_law_176 : decode code 176 = .ok (.aload_n 0, 1) := by decide +kernel
theorem d_L_law_177 : decode code 177 = .ok (.iload_n 3, 1) := by decide +kernel
theorem d_L_law_178 : decode code 178 = .ok (.iconst 1, 1) := by decide +kernel
theorem d_L_law_179 : decode code 179 = .ok (.iadd, 1) := by decide +kernel
theorem d_L_law_180 : decode code 180 = .ok (.iaload, 1) := by decide +kernel
theorem d_L_law_181 : decode code 181 = .ok (.invokevirtual 36, 3) := by decide +kernel
theorem d_L_law_184 : decode code 184 = .ok (.aload_n 2, 1) := by decide +kernel
theorem d_L_law_185 : decode code 185 = .ok (.aload_n 0, 1) := by decide +kernel
theorem d_L_law_186 : decode code 186 = .ok (.iload_n 3, 1) := by decide +kernel
theorem d_L_law_187 : decode code 187 = .ok (.iconst 1, 1) := by decide +kernel
theorem d_L_law_188 : decode code 188 = .ok (.iadd, 1) := by decide +kernel
theorem d_L_law_189 : decode code 189 = .ok (.iaload, 1) := by decide +kernel
theorem d_L_law_190 : decode code 190 = .ok (.invokevirtual 39, 3) := by decide +kernel
theorem d_L_law_193 : decode code 193 = .ok (.if_icmp .eq 93, 3) := by decide +kernel
theorem d_L_law_196 : decode code 196 = .ok (.iconst 0, 1) := by decide +kernel
theorem d_L_law_197 : decode code 197 = .ok (.ireturn, 1) := by decide +kernel
theorem d_L_law_198 : decode code 198 = .ok (.aload_n 1, 1) := by decide +kernel
theorem d_L_law_199 : decode code 199 = .ok (.invokevirtual 40, 3) := by decide +kernel
theorem d_L_law_202 : decode code 202 = .ok (.aload_n 2, 1) := by decide +kernel
theorem d_L_law_203 : decode code 203 = .ok (.invokevirtual 44, 3) := by decide +kernel
theorem d_L_law_206 : decode code 206 = .ok (.if_icmp .eq 80, 3) := by decide +kernel
theorem d_L_law_209 : decode code 209 = .ok (.iconst 0, 1) := by decide +kernel
theorem d_L_law_210 : decode code 210 = .ok (.ireturn, 1) := by decide +kernel
theorem d_L_law_211 : decode code 211 = .ok (.aload_n 1, 1) := by decide +kernel
theorem d_L_law_212 : decode code 212 = .ok (.invokevirtual 45, 3) := by decide +kernel
theorem d_L_law_215 : decode code 215 = .ok (.aload_n 2, 1) := by decide +kernel
theorem d_L_law_216 : decode code 216 = .ok (.invokevirtual 48, 3) := by decide +kernel
theorem d_L_law_219 : decode code 219 = .ok (.if_icmp .eq 67, 3) := by decide +kernel
theorem d_L_law_222 : decode code 222 = .ok (.iconst 0, 1) := by decide +kernel
theorem d_L_law_223 : decode code 223 = .ok (.ireturn, 1) := by decide +kernel
theorem d_L_law_224 : decode code 224 = .ok (.aload_n 1, 1) := by decide +kernel
theorem d_L_law_225 : decode code 225 = .ok (.invokevirtual 49, 3) := by decide +kernel
theorem d_L_law_228 : decode code 228 = .ok (.aload_n 2, 1) := by decide +kernel
theorem d_L_law_229 : decode code 229 = .ok (.invokevirtual 53, 3) := by decide +kernel
theorem d_L_law_232 : decode code 232 = .ok (.if_icmp .eq 54, 3) := by decide +kernel
theorem d_L_law_235 : decode code 235 = .ok (.iconst 0, 1) := by decide +kernel
theorem d_L_law_236 : decode code 236 = .ok (.ireturn, 1) := by decide +kernel
theorem d_L_law_237 : decode code 237 = .ok (.aload_n 1, 1) := by decide +kernel
theorem d_L_law_238 : decode code 238 = .ok (.invokevirtual 54, 3) := by decide +kernel
theorem d_L_law_241 : decode code 241 = .ok (.aload_n 2, 1) := by decide +kernel
theorem d_L_law_242 : decode code 242 = .ok (.invokevirtual 57, 3) := by decide +kernel
theorem d_L_law_245 : decode code 245 = .ok (.if_icmp .eq 41, 3) := by decide +kernel
theorem d_L_law_248 : decode code 248 = .ok (.iconst 0, 1) := by decide +kernel
theorem d_L_law_249 : decode code 249 = .ok (.ireturn, 1) := by decide +kernel
theorem d_L_law_250 : decode code 250 = .ok (.aload_n 1, 1) := by decide +kernel
theorem d_L_law_251 : decode code 251 = .ok (.aload_n 0, 1) := by decide +kernel
theorem d_L_law_252 : decode code 252 = .ok (.iload_n 3, 1) := by decide +kernel
theorem d_L_law_253 : decode code 253 = .ok (.iconst 1, 1) := by decide +kernel
theorem d_L_law_254 : decode code 254 = .ok (.iadd, 1) := by decide +kernel
theorem d_L_law_255 : decode code 255 = .ok (.iaload, 1) := by decide +kernel
theorem d_L_law_256 : decode code 256 = .ok (.invokevirtual 58, 3) := by decide +kernel
theorem d_L_law_259 : decode code 259 = .ok (.aload_n 2, 1) := by decide +kernel
theorem d_L_law_260 : decode code 260 = .ok (.aload_n 0, 1) := by decide +kernel
theorem d_L_law_261 : decode code 261 = .ok (.iload_n 3, 1) := by decide +kernel
theorem d_L_law_262 : decode code 262 = .ok (.iconst 1, 1) := by decide +kernel
theorem d_L_law_263 : decode code 263 = .ok (.iadd, 1) := by decide +kernel
theorem d_L_law_264 : decode code 264 = .ok (.iaload, 1) := by decide +kernel
theorem d_L_law_265 : decode code 265 = .ok (.invokevirtual 61, 3) := by decide +kernel
theorem d_L_law_268 : decode code 268 = .ok (.if_icmp .eq 18, 3) := by decide +kernel
theorem d_L_law_271 : decode code 271 = .ok (.iconst 0, 1) := by decide +kernel
theorem d_L_law_272 : decode code 272 = .ok (.ireturn, 1) := by decide +kernel
theorem d_L_law_273 : decode code 273 = .ok (.aload_n 1, 1) := by decide +kernel
theorem d_L_law_274 : decode code 274 = .ok (.invokevirtual 62, 3) := by decide +kernel
theorem d_L_law_277 : decode code 277 = .ok (.aload_n 2, 1) := by decide +kernel
theorem d_L_law_278 : decode code 278 = .ok (.invokevirtual 65, 3) := by decide +kernel
theorem d_L_law_281 : decode code 281 = .ok (.if_icmp .eq 5, 3) := by decide +kernel
theorem d_L_law_284 : decode code 284 = .ok (.iconst 0, 1) := by decide +kernel
theorem d_L_law_285 : decode code 285 = .ok (.ireturn, 1) := by decide +kernel
theorem d_L_law_286 : decode code 286 = .ok (.iinc 3 3, 3) := by decide +kernel
theorem d_L_law_289 : decode code 289 = .ok (.goto (-261), 3) := by decide +kernel
theorem d_L_law_292 : decode code 292 = .ok (.iconst 1, 1) := by decide +kernel
theorem d_L_law_293 : decode code 293 = .ok (.ireturn, 1) := by decide +kernel
end
section
/-! My own rows over the kit: contracts whose worlds are given before and behind, their start, their end, their calls -/
/-- the nest mates' words: they are not among the words that 'Met' carries, so they ride beside the worlds -/
def NW (U : State) : Prop := va_Nw (.fieldLinkNest "StepMap" 59 "StepMap$Table" "keys" "[I" "StepMap") U ∧ va_Nw (.fieldLinkNest "StepMap" 63 "StepMap$Table" "values" "[I" "StepMap") U ∧ va_Nw (.fieldLinkNest "StepMap" 70 "StepMap$Table" "states" "[I" "StepMap") U ∧ va_Nw (.fieldLinkNest "StepMap" 38 "StepMap$Table" "capacity" "I" "StepMap") U ∧ va_Nw (.fieldLinkNest "StepMap" 41 "StepMap$Table" "visited" "I" "StepMap") U ∧ va_Nw (.methodLinkNest "StepMap$Table" 25 ⟨"StepMap", "mix", "(I)I"⟩ "StepMap") U
theorem NW.warm {s U : State} (hW : s.WarmedH U.vm) (h : NW s) : NW U := ⟨va_Nw.warmF hW h.1, va_Nw.warmF hW h.2.1, va_Nw.warmF hW h.2.2.1, va_Nw.warmF hW h.2.2.2.1, va_Nw.warmF hW h.2.2.2.2.1, va_Nw.warmM hW h.2.2.2.2.2⟩
theorem NW.same {u U : State} (e : u.vm = U.vm) (h : NW u) : NW U := ⟨va_Nw.same rfl e h.1, va_Nw.same rfl e h.2.1, va_Nw.same rfl e h.2.2.1, va_Nw.same rfl e h.2.2.2.1, va_Nw.same rfl e h.2.2.2.2.1, va_Nw.same rfl e h.2.2.2.2.2⟩
def kp (D : va_G) (tys : List (ClassId × FieldType)) (U : State) : Prop := va_K D classes tys U ∧ NW U
theorem kp.warm {D : va_G} {tys : List (ClassId × FieldType)} {s U : State} (hW : s.WarmedH U.vm) (h : kp D tys s) : kp D tys U := ⟨va_K.moved hW.alike h.1, h.2.warm hW⟩
/-- a contract's start: these arguments, this world -/
def pre (D : va_G) (tys : List (ClassId × FieldType)) (ws : va_W) (sz : Nat) (av : List Value) : Array Value → State → Prop := va_Pc av (fun U => U.heap.size = sz ∧ va_P D classes ws U.heap ∧ kp D tys U ∧ va_D (fun _ => True) ws)
theorem pre.blind {D : va_G} {tys : List (ClassId × FieldType)} {ws : va_W} {sz : Nat} {av : List Value} : FrameBlind (pre D tys ws sz av) := fun a U g mk q => by
  obtain ⟨q0, q1, qP, qK, qD⟩ := q
  exact ⟨q0, q1, qP, ⟨va_K.moved (u := U) (U := U.calling g mk a) (Vm.Alike.refl U.vm) qK.1, NW.same (u := U) (U := U.calling g mk a) rfl qK.2⟩, qD⟩
def psi (D : va_G) {S : Type} (post : Int32 → S → Prop) (w : S → va_W) (ws0 : va_W) (sz : Nat) : Array Value → State → Outcome → State → Prop := va_Qi post (fun u t => va_P D classes (w u) t.heap ∧ va_D (va_A ws0 sz) (w u)) (va_A ws0 sz)
def psv (D : va_G) {S : Type} (post : S → Prop) (w : S → va_W) (ws0 : va_W) (sz : Nat) : Array Value → State → Outcome → State → Prop := va_Qv post (fun u t => va_P D classes (w u) t.heap ∧ va_D (va_A ws0 sz) (w u)) (va_A ws0 sz)
/-- a method that answers an int (or a boolean) and makes nothing -/
def Mi (l : Launch) (D : va_G) (tys : List (ClassId × FieldType)) (y : MethodName) (b : ByteArray) (n : Nat) (ret : Option FieldType) (fr lo : Nat) (av : List Value) (ws0 : va_W) {S : Type} (post : Int32 → S → Prop) (w : S → va_W) : Prop :=
  ∀ sz : Nat, Met l y (Cond.code y b n ret :: wgood) { frames := fr, cells := 0, slots := 0, locals := lo } (pre D tys ws0 sz av) (psi D post w ws0 sz) 0 0 (va_A ws0 sz)
/-- a method that answers nothing and makes at most mc cells of ms slots -/
def Mv (l : Launch) (D : va_G) (tys : List (ClassId × FieldType)) (y : MethodName) (b : ByteArray) (n : Nat) (fr lo mc ms : Nat) (av : List Value) (ws0 : va_W) {S : Type} (post : S → Prop) (w : S → va_W) : Prop :=
  ∀ sz : Nat, Met l y (Cond.code y b n none :: wgood) { frames := fr, cells := mc, slots := ms, locals := lo } (pre D tys ws0 sz av) (psv D post w ws0 sz) mc ms (va_A ws0 sz)
theorem good_w : ∀ w ∈ wgood, (w.onTables && w.keeps) = true ∨ ∃ ty, w = .arrayClass ty := fun w h => good_of_word (List.mem_filter.mp h).2
theorem gG {y : MethodName} {b : ByteArray} {n : Nat} {r : Option FieldType} (h : Cond.code y b n r ∈ wgood) : GoodIn wgood (Cond.code y b n r :: wgood) := by
  intro w hw
  rcases List.mem_cons.mp hw with rfl | hw
  · exact ⟨h, good_w _ h⟩
  · exact ⟨hw, good_w _ hw⟩
theorem gV {own C : String} {idx : Nat} {y : MethodName} {b : ByteArray} {n : Nat} {r : Option FieldType} (h1 : Cond.methodLink own idx y ∈ wgood) (h2 : Cond.instanceMethod y ∈ wgood) (h3 : Cond.selects C y y ∈ wgood) (h4 : Cond.initialized C ∈ wgood) (h5 : Cond.code y b n r ∈ wgood) : GoodIn wgood (wsV own idx C y (Cond.code y b n r :: wgood)) := by
  intro w hw
  rcases List.mem_append.mp hw with hw | hw
  · simp only [List.mem_cons, List.not_mem_nil, or_false] at hw
    rcases hw with rfl | rfl | rfl | rfl
    · exact ⟨h1, good_w _ h1⟩
    · exact ⟨h2, good_w _ h2⟩
    · exact ⟨h3, good_w _ h3⟩
    · exact ⟨h4, good_w _ h4⟩
  · exact gG h5 w hw
theorem fm_of {α β : Type} {f : α → Option β} : ∀ {is : List α} {w : List β}, is.map f = w.map some → is.filterMap f = w := by
  intro is
  induction is with
  | nil => intro w h; cases w with
    | nil => rfl
    | cons a t => simp at h
  | cons a t ih => intro w h; cases w with
    | nil => simp at h
    | cons b u =>
      simp only [List.map_cons, List.cons.injEq] at h
      rw [List.filterMap_cons_some h.1, ih h.2]
section MyStart
variable {l : Launch} {D : va_G} {tys : List (ClassId × FieldType)} {y : MethodName} {cc : ByteArray} {n fr lo mc ms : Nat} {av : List Value} {ws0 : va_W} {S : Type} {own : String}
theorem mi_start {post : Int32 → S → Prop} {w : S → va_W} (hy : plainName y.cls = true) (hyo : y.cls = own) (hlen : (lg_sl av).length ≤ n)
    (body : ∀ (p : Program) (e : Env) (s : State) (m : MethodId) (args : Array Value) (below : List Frame) (meth : Method) (c : Code) (ls : Array Slot) (A : Nat → Prop) (Q : State → Prop), p.tables.exec = Jvm.exec → c.code = cc → c.maxLocals = n → s.vm.findClass own = some m.cls → (∀ w ∈ wgood, w.before args s = true) → kp D tys s → va_P D classes ws0 s.heap → va_D A ws0 → (∀ q : Nat, s.heap.size ≤ q → A q) → lv_has ls n (lv_args 0 av) →
      (∀ (pc : Nat) (H : Heap) (locs : List Loc) (ls : Array Slot) (ws : va_W) (v : Int32) (u : S), decode cc pc = .ok (.ireturn, 1) → va_P D classes ws H → va_D A ws → va_S A s.heap H locs → post v u → ws = w u → W p l e { frames := fr, cells := 0, slots := 0, locals := lo } s m args below meth c H locs 0 0 Q (F0 m pc ls [.int v])) →
      W p l e { frames := fr, cells := 0, slots := 0, locals := lo } s m args below meth c s.heap [] 0 0 Q (F0 m 0 ls [])) : Mi l D tys y cc n (some .int) fr lo av ws0 post w := by
  intro sz
  refine Met.ofW (cc := cc) (maxL := n) (ret := some .int) hy rfl ?_
  intro p e s m args below meth c s₁ B hml hv
  obtain ⟨rfl, hsz, hP, hk, hD0⟩ := hv
  subst hsz
  have hts := atoms_spec (ws := Cond.code y cc n (some .int) :: wgood) B.pre
  have hown : s.vm.findClass y.cls = some m.cls := findClass_of_methodNamed B.named
  have hlocks := B.notSynchronized
  subst hyo
  have hl := lv_entry av (n := n) hlen
  rw [lg_entry_eq]
  refine body p e s m av.toArray below meth c _ (va_A ws0 s.heap.size) _ B.exec B.bytes hml hown (fun w hw => hts w (List.mem_cons_of_mem _ hw)) hk hP hD0.self (fun q h => Or.inr h) hl ?_
  intro pc H locs ls ws v u hdg hP hD hS hp hw
  subst hw
  exact W.iret B.exec B.bytes B.returns (fun t ht hW => ⟨⟨v, u, rfl, hp, by rw [ht]; exact hP, hD⟩, hS.F ht⟩) hS.2.2 hdg hlocks
theorem mz_start {post : Int32 → S → Prop} {w : S → va_W} (hy : plainName y.cls = true) (hyo : y.cls = own) (hlen : (lg_sl av).length ≤ n)
    (body : ∀ (p : Program) (e : Env) (s : State) (m : MethodId) (args : Array Value) (below : List Frame) (meth : Method) (c : Code) (ls : Array Slot) (A : Nat → Prop) (Q : State → Prop), p.tables.exec = Jvm.exec → c.code = cc → c.maxLocals = n → s.vm.findClass own = some m.cls → (∀ w ∈ wgood, w.before args s = true) → kp D tys s → va_P D classes ws0 s.heap → va_D A ws0 → (∀ q : Nat, s.heap.size ≤ q → A q) → lv_has ls n (lv_args 0 av) →
      (∀ (pc : Nat) (H : Heap) (locs : List Loc) (ls : Array Slot) (ws : va_W) (v : Int32) (u : S), decode cc pc = .ok (.ireturn, 1) → (v = 0 ∨ v = 1) → va_P D classes ws H → va_D A ws → va_S A s.heap H locs → post v u → ws = w u → W p l e { frames := fr, cells := 0, slots := 0, locals := lo } s m args below meth c H locs 0 0 Q (F0 m pc ls [.int v])) →
      W p l e { frames := fr, cells := 0, slots := 0, locals := lo } s m args below meth c s.heap [] 0 0 Q (F0 m 0 ls [])) : Mi l D tys y cc n (some .boolean) fr lo av ws0 post w := by
  intro sz
  refine Met.ofW (cc := cc) (maxL := n) (ret := some .boolean) hy rfl ?_
  intro p e s m args below meth c s₁ B hml hv
  obtain ⟨rfl, hsz, hP, hk, hD0⟩ := hv
  subst hsz
  have hts := atoms_spec (ws := Cond.code y cc n (some .boolean) :: wgood) B.pre
  have hown : s.vm.findClass y.cls = some m.cls := findClass_of_methodNamed B.named
  have hlocks := B.notSynchronized
  subst hyo
  have hl := lv_entry av (n := n) hlen
  rw [lg_entry_eq]
  refine body p e s m av.toArray below meth c _ (va_A ws0 s.heap.size) _ B.exec B.bytes hml hown (fun w hw => hts w (List.mem_cons_of_mem _ hw)) hk hP hD0.self (fun q h => Or.inr h) hl ?_
  intro pc H locs ls ws v u hdg h01 hP hD hS hp hw
  subst hw
  refine W.zret B.exec B.bytes B.returns ?_ (fun t ht hW => ⟨⟨v, u, rfl, hp, by rw [ht]; exact hP, hD⟩, hS.F ht⟩) hS.2.2 hdg hlocks
  rcases h01 with rfl | rfl <;> decide
theorem mv_start {post : S → Prop} {w : S → va_W} (hy : plainName y.cls = true) (hyo : y.cls = own) (hlen : (lg_sl av).length ≤ n)
    (body : ∀ (p : Program) (e : Env) (s : State) (m : MethodId) (args : Array Value) (below : List Frame) (meth : Method) (c : Code) (ls : Array Slot) (A : Nat → Prop) (Q : State → Prop), p.tables.exec = Jvm.exec → c.code = cc → c.maxLocals = n → meth.name = y.name → s.vm.findClass own = some m.cls → (∀ w ∈ wgood, w.before args s = true) → kp D tys s → va_P D classes ws0 s.heap → va_D A ws0 → (∀ q : Nat, s.heap.size ≤ q → A q) → lv_has ls n (lv_args 0 av) →
      (∀ (pc : Nat) (H : Heap) (locs : List Loc) (ls : Array Slot) (ws : va_W) (u : S), decode cc pc = .ok (.return_, 1) → va_P D classes ws H → va_D A ws → va_S A s.heap H locs → post u → ws = w u → W p l e { frames := fr, cells := mc, slots := ms, locals := lo } s m args below meth c H locs mc ms Q (F0 m pc ls [])) →
      W p l e { frames := fr, cells := mc, slots := ms, locals := lo } s m args below meth c s.heap [] 0 0 Q (F0 m 0 ls [])) : Mv l D tys y cc n fr lo mc ms av ws0 post w := by
  intro sz
  refine Met.ofW (cc := cc) (maxL := n) (ret := none) hy rfl ?_
  intro p e s m args below meth c s₁ B hml hv
  obtain ⟨rfl, hsz, hP, hk, hD0⟩ := hv
  subst hsz
  have hts := atoms_spec (ws := Cond.code y cc n none :: wgood) B.pre
  have hown : s.vm.findClass y.cls = some m.cls := findClass_of_methodNamed B.named
  have hlocks := B.notSynchronized
  have hin : meth.name = y.name := (name_of_methodNamed B.named B.method).1
  subst hyo
  have hl := lv_entry av (n := n) hlen
  rw [lg_entry_eq]
  refine body p e s m av.toArray below meth c _ (va_A ws0 s.heap.size) _ B.exec B.bytes hml hin hown (fun w hw => hts w (List.mem_cons_of_mem _ hw)) hk hP hD0.self (fun q h => Or.inr h) hl ?_
  intro pc H locs ls ws u hdg hP hD hS hp hw
  subst hw
  exact W.vret B.exec B.bytes B.returns (fun t ht hW => ⟨⟨u, rfl, hp, by rw [ht]; exact hP, hD⟩, hS.F ht⟩) hS.2.2 hdg hlocks
end MyStart
section MyCall
variable {p : Program} {l : Launch} {e : Env} {R : Room} {s : State} {m : MethodId} {args : Array Value} {below : List Frame} {meth : Method} {c : Code} {H : Heap} {locs : List Loc} {cells slots : Nat} {Q : State → Prop}
  {cc b : ByteArray} {pc nL n fr lo k idx a ci mc ms : Nat} {ls : Array Slot} {rest st0 As : List Value} {D : va_G} {A : Nat → Prop} {tys : List (ClassId × FieldType)} {ws wc wr : va_W} {H0 : Heap} {own : String} {y : MethodName} {ret : Option FieldType} {S : Type} {fs : List Value} {q : vw_C} {host : String}
theorem x_top {x z : Int32} (h : x = z) (kk : W p l e R s m args below meth c H locs cells slots Q (F0 m pc ls (.int z :: rest))) : W p l e R s m args below meth c H locs cells slots Q (F0 m pc ls (.int x :: rest)) := by rw [h]; exact kk
theorem x_ald (hexec : p.tables.exec = Jvm.exec) (hb : c.code = cc) (hk : kp D tys s) (hP : va_P D classes ws H) (q0 t0 : Nat) {cA : ClassId} {n : Nat} {f : Nat → Int32} (ha : ws[q0]? = some (a, .inl (cA, n, .inl f))) (ht : tys[t0]? = some (cA, .int)) {i : Nat} (hi : i < n) (hn : n < 2 ^ 31) (hdg : decode cc pc = .ok (.iaload, 1))
    (kk : W p l e R s m args below meth c H locs cells slots Q (F0 m (pc + 1) ls (.int (f i) :: rest))) : W p l e R s m args below meth c H locs cells slots Q (F0 m pc ls (.int (nI i) :: .ref a :: rest)) := by
  refine va_iald hexec hb hk.1 hP q0 t0 ha ht (vp_in_nI hi hn) hdg ?_
  rw [nI_clamp (by omega)]
  exact kk
theorem x_ast (hexec : p.tables.exec = Jvm.exec) (hb : c.code = cc) (hk : kp D tys s) (hP : va_P D classes ws H) (hD : va_D A ws) (hS : va_S A H0 H locs) (q0 t0 : Nat) {cA : ClassId} {n : Nat} {f : Nat → Int32} (ha : ws[q0]? = some (a, .inl (cA, n, .inl f))) (ht : tys[t0]? = some (cA, .int)) {i : Nat} {x : Int32} (hi : i < n) (hn : n < 2 ^ 31) (hdg : decode cc pc = .ok (.iastore, 1))
    (kk : ∀ (H1 : Heap) (locs1 : List Loc), va_P D classes (ws.set q0 (a, .inl (cA, n, .inl (upd f i x)))) H1 → va_D A (ws.set q0 (a, .inl (cA, n, .inl (upd f i x)))) → va_S A H0 H1 locs1 → W p l e R s m args below meth c H1 locs1 cells slots Q (F0 m (pc + 1) ls rest)) : W p l e R s m args below meth c H locs cells slots Q (F0 m pc ls (.int x :: .int (nI i) :: .ref a :: rest)) := by
  refine va_iast hexec hb hk.1 hP hD hS q0 t0 ha ht (vp_in_nI hi hn) hdg ?_
  rw [nI_clamp (by omega)]
  exact kk
theorem xV_i {post : Int32 → S → Prop} {w wb : S → va_W} (F : CallFix p m c cc nL s args wgood own) (hM : Mi l D tys y b n ret fr lo (.ref a :: As) wc post w) (hG : GoodIn wgood (wsV own idx y.cls y (Cond.code y b n ret :: wgood)))
    (hd : y.cls = q.1 ∧ y.cls ≠ "java/lang/invoke/MethodHandle" ∧ y.cls ≠ "java/lang/invoke/VarHandle" ∧ (parseMethodDescriptor y.desc).map (fun d => d.parameters.length) = some k) (hk0 : As.length = k) (hR : fr + 1 ≤ R.frames ∧ 8 + (n + 11) + lo ≤ R.locals)
    (hkp : kp D tys s) (hP : va_P D classes ws H) (hD : va_D A ws) (hS : va_S A H0 H locs) (hA : ∀ q, H0.size ≤ q → A q) (isC isR isB : List Nat) (hC : isC.map (fun i => ws[i]?) = wc.map some) (hRr : isR.map (fun i => ws[i]?) = wr.map some) (hB : ∀ u, isB.map (fun i => (wr ++ w u)[i]?) = (wb u).map some) (hn : va_nd isC = true ∧ va_nd isR = true ∧ va_nd isB = true) (hdis : ∀ i ∈ isR, i ∉ isC)
    (hc : classes[ci]? = some q) (he : wc[0]? = some (a, .inr (ci, fs))) (hsize : ls.size = nL) (hst : st0 = As.reverse ++ .ref a :: rest) (hw8 : (rest.map fun v => v.category).sum ≤ 8) (hdg : decode cc pc = .ok (.invokevirtual idx, 3)) (hf : cells ≤ R.cells ∧ slots ≤ R.slots)
    (kk : ∀ (r : Int32) (u : S) (H1 : Heap) (locs1 : List Loc), post r u → va_P D classes (wb u) H1 → va_D A (wb u) → va_S A H0 H1 locs1 → W p l e R s m args below meth c H1 locs1 cells slots Q (F0 m (pc + 3) ls (.int r :: rest))) : W p l e R s m args below meth c H locs cells slots Q (F0 m pc ls st0) := by
  have hPc : va_P D classes wc H := hP.sub isC (fm_of hC)
  have hDc : va_D A wc := hD.sub isC hn.1 hC
  have hFc := va_free (wc := wc) hD hS hA isC hC
  obtain ⟨cellB, g1, g2, g3⟩ := va_recv hkp.1 hPc hc he
  refine va_calli (va_runV F (hM H.size) (cwV k F.2.2.2.2 hG rfl rfl rfl ⟨rfl, hd.2⟩ hR) ⟨pre.blind, ⟨cellB, g1, g2, by rw [hd.1]; exact g3⟩, fun U hU hW => ⟨rfl, by rw [hU], by rw [hU]; exact hPc, hkp.warm hW, hDc.weaken (fun _ _ _ _ => trivial)⟩⟩ rfl hk0 hsize hst (lv_room hw8) hdg hf) hS (fun q _ h => hFc q h) hFc (fun r u t H1 locs1 ht hvm hp hB1 hz1 hk1 hS1 => ?_)
  obtain ⟨hP1, hD1⟩ := hB1
  rw [ht] at hP1
  obtain ⟨hP2, hD2⟩ := va_join hP hD isC isR hC hRr hn.2.1 hdis hk1 hFc hP1 hD1
  exact kk r u H1 locs1 hp (hP2.sub isB (fm_of (hB u))) (hD2.sub isB hn.2.2 (hB u)) hS1
theorem xV_v {post : S → Prop} {w wb : S → va_W} (F : CallFix p m c cc nL s args wgood own) (hM : Mv l D tys y b n fr lo 0 0 (.ref a :: As) wc post w) (hG : GoodIn wgood (wsV own idx y.cls y (Cond.code y b n none :: wgood)))
    (hd : y.cls = q.1 ∧ y.cls ≠ "java/lang/invoke/MethodHandle" ∧ y.cls ≠ "java/lang/invoke/VarHandle" ∧ (parseMethodDescriptor y.desc).map (fun d => d.parameters.length) = some k) (hk0 : As.length = k) (hR : fr + 1 ≤ R.frames ∧ 8 + (n + 11) + lo ≤ R.locals)
    (hkp : kp D tys s) (hP : va_P D classes ws H) (hD : va_D A ws) (hS : va_S A H0 H locs) (hA : ∀ q, H0.size ≤ q → A q) (isC isR isB : List Nat) (hC : isC.map (fun i => ws[i]?) = wc.map some) (hRr : isR.map (fun i => ws[i]?) = wr.map some) (hB : ∀ u, isB.map (fun i => (wr ++ w u)[i]?) = (wb u).map some) (hn : va_nd isC = true ∧ va_nd isR = true ∧ va_nd isB = true) (hdis : ∀ i ∈ isR, i ∉ isC)
    (hc : classes[ci]? = some q) (he : wc[0]? = some (a, .inr (ci, fs))) (hsize : ls.size = nL) (hst : st0 = As.reverse ++ .ref a :: rest) (hw8 : (rest.map fun v => v.category).sum ≤ 8) (hdg : decode cc pc = .ok (.invokevirtual idx, 3)) (hf : cells ≤ R.cells ∧ slots ≤ R.slots)
    (kk : ∀ (u : S) (H1 : Heap) (locs1 : List Loc), post u → va_P D classes (wb u) H1 → va_D A (wb u) → va_S A H0 H1 locs1 → W p l e R s m args below meth c H1 locs1 cells slots Q (F0 m (pc + 3) ls rest)) : W p l e R s m args below meth c H locs cells slots Q (F0 m pc ls st0) := by
  have hPc : va_P D classes wc H := hP.sub isC (fm_of hC)
  have hDc : va_D A wc := hD.sub isC hn.1 hC
  have hFc := va_free (wc := wc) hD hS hA isC hC
  obtain ⟨cellB, g1, g2, g3⟩ := va_recv hkp.1 hPc hc he
  refine va_callv (va_runV F (hM H.size) (cwV k F.2.2.2.2 hG rfl rfl rfl ⟨rfl, hd.2⟩ hR) ⟨pre.blind, ⟨cellB, g1, g2, by rw [hd.1]; exact g3⟩, fun U hU hW => ⟨rfl, by rw [hU], by rw [hU]; exact hPc, hkp.warm hW, hDc.weaken (fun _ _ _ _ => trivial)⟩⟩ rfl hk0 hsize hst (lv_room hw8) hdg hf) hS (fun q _ h => hFc q h) hFc (fun u t H1 locs1 ht hvm hp hB1 hz1 hk1 hS1 => ?_)
  obtain ⟨hP1, hD1⟩ := hB1
  rw [ht] at hP1
  obtain ⟨hP2, hD2⟩ := va_join hP hD isC isR hC hRr hn.2.1 hdis hk1 hFc hP1 hD1
  exact kk u H1 locs1 hp (hP2.sub isB (fm_of (hB u))) (hD2.sub isB hn.2.2 (hB u)) hS1
/-- a constructor's call -/
theorem xI_v {post : S → Prop} {w wb : S → va_W} (F : CallFix p m c cc nL s args wgood own) (hM : Mv l D tys y b n fr lo mc ms (.ref a :: As) wc post w) (hG : Cond.code y b n none ∈ wgood) (hini : Cond.initialized y.cls ∈ wgood) (hlk : Cond.methodLink own idx y ∈ wgood) (hinst : Cond.instanceMethod y ∈ wgood) (hy1 : y.name = "<init>")
    (hd : y.cls ≠ "java/lang/invoke/MethodHandle" ∧ y.cls ≠ "java/lang/invoke/VarHandle" ∧ (parseMethodDescriptor y.desc).map (fun d => d.parameters.length) = some k) (hk0 : As.length = k) (hR : fr + 1 ≤ R.frames ∧ 8 + (n + 11) + lo ≤ R.locals)
    (hkp : kp D tys s) (hP : va_P D classes ws H) (hD : va_D A ws) (hS : va_S A H0 H locs) (hA : ∀ q, H0.size ≤ q → A q) (isC isR isB : List Nat) (hC : isC.map (fun i => ws[i]?) = wc.map some) (hRr : isR.map (fun i => ws[i]?) = wr.map some) (hB : ∀ u, isB.map (fun i => (wr ++ w u)[i]?) = (wb u).map some) (hn : va_nd isC = true ∧ va_nd isR = true ∧ va_nd isB = true) (hdis : ∀ i ∈ isR, i ∉ isC)
    (hsize : ls.size = nL) (hst : st0 = As.reverse ++ .ref a :: rest) (hw8 : (rest.map fun v => v.category).sum ≤ 8) (hdg : decode cc pc = .ok (.invokespecial idx, 3)) (hf : cells + mc ≤ R.cells ∧ slots + ms ≤ R.slots)
    (kk : ∀ (u : S) (H1 : Heap) (locs1 : List Loc), post u → va_P D classes (wb u) H1 → va_D A (wb u) → va_S A H0 H1 locs1 → W p l e R s m args below meth c H1 locs1 (cells + mc) (slots + ms) Q (F0 m (pc + 3) ls rest)) : W p l e R s m args below meth c H locs cells slots Q (F0 m pc ls st0) := by
  have hPc : va_P D classes wc H := hP.sub isC (fm_of hC)
  have hDc : va_D A wc := hD.sub isC hn.1 hC
  have hFc := va_free (wc := wc) hD hS hA isC hC
  have ht := F.2.2.2.2
  refine va_callv (va_runI F (hM H.size) (cwI k ht (gG hG) rfl rfl rfl (ht _ hini) (ht _ hlk) (ht _ hinst) hy1 hd hR) ⟨pre.blind, fun U hU hW => ⟨rfl, by rw [hU], by rw [hU]; exact hPc, hkp.warm hW, hDc.weaken (fun _ _ _ _ => trivial)⟩⟩ rfl hk0 hsize hst (lv_room hw8) hdg hf) hS (fun q _ h => hFc q h) hFc (fun u t H1 locs1 ht hvm hp hB1 hz1 hk1 hS1 => ?_)
  obtain ⟨hP1, hD1⟩ := hB1
  rw [ht] at hP1
  obtain ⟨hP2, hD2⟩ := va_join hP hD isC isR hC hRr hn.2.1 hdis hk1 hFc hP1 hD1
  exact kk u H1 locs1 hp (hP2.sub isB (fm_of (hB u))) (hD2.sub isB hn.2.2 (hB u)) hS1
/-- a nest mate's static method, of no world -/
theorem xSN_i {r0 : Int32} (F : CallFix p m c cc nL s args wgood own) (hM : Mi l D tys y b n ret fr lo As [] (fun r (_ : Unit) => r = r0) (fun _ => [])) (hG : Cond.code y b n ret ∈ wgood) (hini : Cond.initialized y.cls ∈ wgood) (hlk : va_Nw (.methodLinkNest own idx y host) s) (hstat : Cond.static y ∈ wgood)
    (hd : y.cls ≠ "java/lang/invoke/MethodHandle" ∧ y.cls ≠ "java/lang/invoke/VarHandle" ∧ (parseMethodDescriptor y.desc).map (fun d => d.parameters.length) = some k) (hk0 : As.length = k) (hR : fr + 1 ≤ R.frames ∧ 8 + (n + 11) + lo ≤ R.locals)
    (hkp : kp D tys s) (hP : va_P D classes ws H) (hD : va_D A ws) (hS : va_S A H0 H locs) (hA : ∀ q, H0.size ≤ q → A q)
    (hsize : ls.size = nL) (hst : st0 = As.reverse ++ rest) (hw8 : (rest.map fun v => v.category).sum ≤ 8) (hdg : decode cc pc = .ok (.invokestatic idx, 3)) (hf : cells ≤ R.cells ∧ slots ≤ R.slots)
    (kk : ∀ (H1 : Heap) (locs1 : List Loc), va_P D classes ws H1 → va_S A H0 H1 locs1 → W p l e R s m args below meth c H1 locs1 cells slots Q (F0 m (pc + 3) ls (.int r0 :: rest))) : W p l e R s m args below meth c H locs cells slots Q (F0 m pc ls st0) := by
  have hFc := va_free (wc := []) hD hS hA [] rfl
  have ht := F.2.2.2.2
  have hP0 : va_P D classes [] H := fun k q h => by simp at h
  have hD0 : va_D (fun _ => True) ([] : va_W) := ⟨fun i j p q h => by simp at h, fun k q h => by simp at h⟩
  refine va_calli (va_runSN F (hM H.size) ⟨va_cnB k ht (gG hG) rfl rfl rfl hlk (ht _ hini) hd hR, ht _ hstat, trivial⟩ ⟨pre.blind, fun U hU hW => ⟨rfl, by rw [hU], by rw [hU]; exact hP0, hkp.warm hW, hD0⟩⟩ rfl hk0 hsize hst (lv_room hw8) hdg hf) hS (fun q _ h => hFc q h) hFc (fun r u t H1 locs1 ht hvm hp hB1 hz1 hk1 hS1 => ?_)
  have hp : r = r0 := hp
  subst hp
  refine kk H1 locs1 (hP.kept fun k q hq => hk1 q.1 (hP k q hq).lt fun h => ?_) hS1
  rcases h with ⟨j, e, h⟩ | h
  · simp at h
  · exact absurd (hP k q hq).lt (Nat.not_lt.mpr h)
end MyCall
end
section
/-! The pure words: tables, looking, closing up; and the ints that both programs compute -/
abbrev Tb : Type := (Nat → Int32) × (Nat → Int32) × (Nat → Int32)
abbrev Ad : Type := Nat × Nat × Nat × Nat
def mixI (k : Int32) : Int32 := (k * (-1640531535)) ^^^ ((k * (-1640531535)).toUInt32 >>> ((15 : Int32).toUInt32 &&& Int32.toUInt32 31)).toInt32
def hm (cap : Nat) (k : Int32) : Nat := (mixI k).toBitVec.toNat % cap
def nx (cap i : Nat) : Nat := (i + 1) % cap
def ds (cap a b : Nat) : Nat := (b + cap - a) % cap
def ad (cap a d : Nat) : Nat := (a + d) % cap
/-- looking for k ends at i -/
abbrev stp (T : Tb) (k : Int32) (i : Nat) : Prop := T.2.2 i = 0 ∨ (T.2.2 i = 1 ∧ T.1 i = k)
def fds (cap : Nat) (T : Tb) (k : Int32) : Nat → Nat → Nat
  | 0, i => i
  | n + 1, i => if stp T k i then i else fds cap T k n (nx cap i)
def fdn (cap : Nat) (T : Tb) (k : Int32) : Nat → Nat → Nat
  | 0, _ => 0
  | n + 1, i => if stp T k i then 0 else fdn cap T k n (nx cap i) + 1
/-- looking ends within n steps -/
def en (cap : Nat) (T : Tb) (k : Int32) : Nat → Nat → Prop
  | 0, _ => False
  | n + 1, i => stp T k i ∨ en cap T k n (nx cap i)
/-- where looking for a key ends, and how many slots it visits -/
def fsl (cap : Nat) (T : Tb) (k : Int32) : Nat := fds cap T k cap (hm cap k)
def fct (cap : Nat) (T : Tb) (k : Int32) : Nat := fdn cap T k cap (hm cap k) + 1
def fok (cap : Nat) (T : Tb) (k : Int32) : Prop := en cap T k cap (hm cap k)
def clr (f : Nat → Int32) (n : Nat) : Nat → Int32 := fun j => if j < n then 0 else f j
def tput (T : Tb) (i : Nat) (k v : Int32) : Tb := (upd T.1 i k, upd T.2.1 i v, upd T.2.2 i 1)
def cun (cap : Nat) (st : Nat → Int32) : Nat → Nat → Nat
  | 0, _ => 0
  | n + 1, i => if st i = 0 then 0 else cun cap st n (nx cap i) + 1
def enz (cap : Nat) (st : Nat → Int32) : Nat → Nat → Prop
  | 0, _ => False
  | n + 1, i => st i = 0 ∨ enz cap st n (nx cap i)
/-- closing up behind the free slot f, from i on -/
def cu (cap : Nat) (st : Nat → Int32) : Nat → Nat → Nat → (Nat → Int32) → (Nat → Int32) → Nat × (Nat → Int32) × (Nat → Int32)
  | 0, f, _, ks, vs => (f, ks, vs)
  | n + 1, f, i, ks, vs => if st i = 0 then (f, ks, vs) else if ds cap f i ≤ ds cap (hm cap (ks i)) i then cu cap st n i (nx cap i) (upd ks f (ks i)) (upd vs f (vs i)) else cu cap st n f (nx cap i) ks vs
def cur3 (cap : Nat) (T : Tb) (s : Nat) : Nat × (Nat → Int32) × (Nat → Int32) := cu cap T.2.2 cap s (nx cap s) T.1 T.2.1
def cup (cap : Nat) (T : Tb) (s : Nat) : Tb := ((cur3 cap T s).2.1, (cur3 cap T s).2.2, upd T.2.2 (cur3 cap T s).1 0)
def cuc (cap : Nat) (T : Tb) (s : Nat) : Nat := cun cap T.2.2 cap (nx cap s) + 1
/-- one old slot is moved -/
def mv1 (fc : Nat) (F O : Tb) (c : Nat) : Tb × Tb × Nat := if O.2.2 c = 1 then (tput F (fsl fc F (O.1 c)) (O.1 c) (O.2.1 c), (O.1, O.2.1, upd O.2.2 c 2), fct fc F (O.1 c)) else (F, O, 0)
def mvn (fc : Nat) : Nat → Nat → Tb → Tb → Tb × Tb × Nat
  | 0, _, F, O => (F, O, 0)
  | n + 1, c, F, O => ((mvn fc n (c + 1) (mv1 fc F O c).1 (mv1 fc F O c).2.1).1, (mvn fc n (c + 1) (mv1 fc F O c).1 (mv1 fc F O c).2.1).2.1, (mv1 fc F O c).2.2 + (mvn fc n (c + 1) (mv1 fc F O c).1 (mv1 fc F O c).2.1).2.2)
/-- every moved key finds an empty slot -/
def mok (fc : Nat) : Nat → Nat → Tb → Tb → Prop
  | 0, _, _, _ => True
  | n + 1, c, F, O => (O.2.2 c = 1 → fok fc F (O.1 c) ∧ F.2.2 (fsl fc F (O.1 c)) = 0) ∧ mok fc n (c + 1) (mv1 fc F O c).1 (mv1 fc F O c).2.1
/-- a capacity -/
def pw (cap : Nat) : Prop := ∃ e : Nat, 3 ≤ e ∧ e ≤ 10 ∧ cap = 2 ^ e
theorem pw.cases {cap : Nat} (h : pw cap) : cap = 8 ∨ cap = 16 ∨ cap = 32 ∨ cap = 64 ∨ cap = 128 ∨ cap = 256 ∨ cap = 512 ∨ cap = 1024 := by
  obtain ⟨e, h1, h2, rfl⟩ := h
  rcases (show e = 3 ∨ e = 4 ∨ e = 5 ∨ e = 6 ∨ e = 7 ∨ e = 8 ∨ e = 9 ∨ e = 10 by omega) with rfl | rfl | rfl | rfl | rfl | rfl | rfl | rfl <;> decide
theorem pw.ge {cap : Nat} (h : pw cap) : 8 ≤ cap := by rcases h.cases with h | h | h | h | h | h | h | h <;> omega
theorem pw.le {cap : Nat} (h : pw cap) : cap ≤ 1024 := by rcases h.cases with h | h | h | h | h | h | h | h <;> omega
theorem pw.m8 {cap : Nat} (h : pw cap) : cap % 8 = 0 := by rcases h.cases with h | h | h | h | h | h | h | h <;> omega
theorem pw.dbl {cap : Nat} (h : pw cap) (h2 : 2 * cap ≤ 1024) : pw (2 * cap) := by
  obtain ⟨e, h3, h4, rfl⟩ := h
  refine ⟨e + 1, by omega, ?_, by rw [Nat.pow_succ]; omega⟩
  rcases (show e = 10 ∨ e ≤ 9 by omega) with rfl | h
  · omega
  · omega
theorem pw.half {cap : Nat} (h : pw cap) (h2 : 8 < cap) : pw (cap / 2) := by
  obtain ⟨e, h3, h4, rfl⟩ := h
  rcases (show e = 3 ∨ 4 ≤ e by omega) with rfl | h
  · omega
  · refine ⟨e - 1, by omega, by omega, ?_⟩
    obtain ⟨d, rfl⟩ : ∃ d, e = d + 1 := ⟨e - 1, by omega⟩
    rw [Nat.pow_succ]; simp
theorem pw.div2 {cap hf : Nat} (h : pw cap) (hf1 : pw hf) (h1 : cap ≤ hf) (h2 : ¬ cap = hf) : 2 * cap ≤ hf := by
  rcases h.cases with h | h | h | h | h | h | h | h <;> rcases hf1.cases with g | g | g | g | g | g | g | g <;> omega
theorem hm_lt {cap : Nat} (h : pw cap) (k : Int32) : hm cap k < cap := Nat.mod_lt _ (by have := h.ge; omega)
theorem nx_lt {cap : Nat} (h : pw cap) (i : Nat) : nx cap i < cap := Nat.mod_lt _ (by have := h.ge; omega)
theorem ds_lt {cap : Nat} (h : pw cap) (a b : Nat) : ds cap a b < cap := Nat.mod_lt _ (by have := h.ge; omega)
theorem ad_lt {cap : Nat} (h : pw cap) (a b : Nat) : ad cap a b < cap := Nat.mod_lt _ (by have := h.ge; omega)
theorem cap_m1 {cap : Nat} (h : pw cap) : nI cap - 1 = nI (cap - 1) := by
  obtain ⟨d, rfl⟩ : ∃ d, cap = d + 1 := ⟨cap - 1, by have := h.ge; omega⟩
  exact nI_pred d
theorem and_cap {cap : Nat} (h : pw cap) (x : Int32) : x &&& (nI cap - 1) = nI (x.toBitVec.toNat % cap) := by
  have hl := h.le
  rw [cap_m1 h]
  obtain ⟨e, h1, h2, rfl⟩ := h
  exact pk_and x e (pk_tn (by omega))
theorem and_home {cap : Nat} (h : pw cap) (k : Int32) : mixI k &&& (nI cap - 1) = nI (hm cap k) := and_cap h _
theorem and_next {cap i : Nat} (h : pw cap) (hi : i < cap) : (nI i + 1) &&& (nI cap - 1) = nI (nx cap i) := by
  have := h.le
  rw [and_cap h, nI_1, pk_tn (by omega)]
  rfl
theorem sub_bv (x y : Int32) : (x - y).toBitVec = x.toBitVec - y.toBitVec := rfl
theorem and_dist {cap i j : Nat} (h : pw cap) (hi : i < cap) (hj : j < cap) : (nI i - nI j) &&& (nI cap - 1) = nI (ds cap j i) := by
  have hl := h.le
  rw [and_cap h]
  congr 1
  rw [sub_bv, BitVec.toNat_sub, pk_tn (by omega), pk_tn (by omega)]
  unfold ds
  rcases h.cases with h | h | h | h | h | h | h | h <;> subst h <;> omega
theorem toInt_bv (x : Int32) : x.toInt = if x.toBitVec.toNat < 2 ^ 31 then (x.toBitVec.toNat : Int) else (x.toBitVec.toNat : Int) - 2 ^ 32 := by
  show x.toBitVec.toInt = _
  rw [BitVec.toInt_eq_toNat_cond]
  have := x.toBitVec.isLt
  split <;> split <;> omega
theorem eq_of_toInt {x y : Int32} (h : x.toInt = y.toInt) : x = y := Int32.toInt_inj.mp h
theorem rem_cap {cap : Nat} (h : pw cap) (x : Int32) : (x - x / nI cap * nI cap < 0 → x - x / nI cap * nI cap + nI cap = nI (x.toBitVec.toNat % cap)) ∧ (¬ x - x / nI cap * nI cap < 0 → x - x / nI cap * nI cap = nI (x.toBitVec.toNat % cap)) := by
  have hl := h.le
  have hg := h.ge
  have hr := rem_toInt x (nI cap)
  rw [nI_toInt (by omega)] at hr
  generalize hR : x - x / nI cap * nI cap = r at hr ⊢
  have hb := toInt_bv x
  have hlt : x.toBitVec.toNat < 2 ^ 32 := x.toBitVec.isLt
  generalize x.toBitVec.toNat = u at hb hlt ⊢
  have hm : u % cap < cap := Nat.mod_lt _ (by omega)
  have e1 : x.toInt.tmod cap = r.toInt := hr.symm
  have hem : (x.toInt.tmod cap < 0 → x.toInt.tmod cap + cap = ((u % cap : Nat) : Int)) ∧ (¬ x.toInt.tmod cap < 0 → x.toInt.tmod cap = ((u % cap : Nat) : Int)) := by
    have T : x.toInt.tmod cap = if 0 ≤ x.toInt then x.toInt % cap else -((-x.toInt) % cap) := by
      split
      · rename_i q; exact Int.tmod_eq_emod_of_nonneg q
      · rename_i q
        have e : x.toInt = -(-x.toInt) := by omega
        rw [e, Int.neg_tmod, Int.tmod_eq_emod_of_nonneg (by omega)]
        simp
    rw [T, hb]
    clear T hR hr e1 hb
    rcases h.cases with h | h | h | h | h | h | h | h <;> subst h <;> (split <;> split <;> omega)
  rw [e1] at hem
  constructor
  · intro q
    rw [Int32.lt_iff_toInt_lt, Int32.toInt_zero] at q
    apply eq_of_toInt
    rw [Int32.toInt_add, nI_toInt (n := cap) (by omega), nI_toInt (by omega), hem.1 q]
    rw [Int.bmod_eq_of_le] <;> omega
  · intro q
    rw [Int32.lt_iff_toInt_lt, Int32.toInt_zero] at q
    apply eq_of_toInt
    rw [nI_toInt (by omega), hem.2 q]
theorem rem_next {cap i : Nat} (h : pw cap) (hi : i < cap) : (nI i + 1) - (nI i + 1) / nI cap * nI cap = nI (nx cap i) := by
  have hl := h.le
  have hg := h.ge
  rw [nI_1, pk_rem (by omega) (by omega) (by omega)]
  rfl
theorem upd_self {f : Nat → Int32} {k : Nat} {x : Int32} (h : f k = x) : upd f k x = f := by
  funext j
  unfold upd
  split
  · rename_i e; rw [e, h]
  · rfl
theorem clr_0 (f : Nat → Int32) : clr f 0 = f := by funext j; simp [clr]
theorem clr_s (f : Nat → Int32) (n : Nat) : upd (clr f n) n 0 = clr f (n + 1) := by
  funext j
  unfold upd clr
  by_cases h : j = n
  · subst h; simp
  · rw [if_neg h]
    by_cases h2 : j < n
    · rw [if_pos h2, if_pos (by omega)]
    · rw [if_neg h2, if_neg (by omega)]
end
section
/-! Tables, purely: the ring, looking, laying, closing up -/
theorem md_hi {x c : Nat} (h : c ≤ x) (h2 : x < 2 * c) : x % c = x - c := by rw [Nat.mod_eq_sub_mod h, Nat.mod_eq_of_lt (by omega)]
theorem ad_eq {cap a d : Nat} (ha : a < cap) (hd : d < cap) : ad cap a d = if a + d < cap then a + d else a + d - cap := by
  unfold ad
  split
  · rename_i h; exact Nat.mod_eq_of_lt h
  · rename_i h; exact md_hi (by omega) (by omega)
theorem ds_eq {cap a b : Nat} (ha : a < cap) (hb : b < cap) : ds cap a b = if a ≤ b then b - a else b + cap - a := by
  unfold ds
  split
  · rename_i h; rw [md_hi (by omega) (by omega)]; omega
  · rename_i h; exact Nat.mod_eq_of_lt (by omega)
theorem nx_eq {cap i : Nat} (hi : i < cap) : nx cap i = if i + 1 = cap then 0 else i + 1 := by
  unfold nx
  split
  · rename_i h; rw [h]; exact Nat.mod_self _
  · rename_i h; exact Nat.mod_eq_of_lt (by omega)
theorem ad_nx (cap i d : Nat) : ad cap (nx cap i) d = ad cap i (d + 1) := by
  unfold ad nx
  rw [Nat.mod_add_mod]
  congr 1
  omega
theorem ad_0 {cap i : Nat} (h : i < cap) : ad cap i 0 = i := Nat.mod_eq_of_lt h
theorem ad_ds {cap a b : Nat} (ha : a < cap) (hb : b < cap) : ad cap a (ds cap a b) = b := by
  have h : ds cap a b < cap := Nat.mod_lt _ (by omega)
  rw [ad_eq ha h]
  rw [ds_eq ha hb] at h ⊢
  split at h <;> split <;> split <;> omega
theorem ds_ad {cap a d : Nat} (ha : a < cap) (hd : d < cap) : ds cap a (ad cap a d) = d := by
  have h : ad cap a d < cap := Nat.mod_lt _ (by omega)
  rw [ds_eq ha h]
  rw [ad_eq ha hd] at h ⊢
  split at h <;> split <;> split <;> omega
/-- looking, by its number of steps -/
theorem en_spec {cap : Nat} {T : Tb} {k : Int32} (hc : 0 < cap) : ∀ (n i : Nat), i < cap → en cap T k n i → fds cap T k n i = ad cap i (fdn cap T k n i) ∧ fdn cap T k n i < n ∧ stp T k (fds cap T k n i) ∧ ∀ d, d < fdn cap T k n i → ¬ stp T k (ad cap i d) := by
  intro n
  induction n with
  | zero => intro i _ h; exact h.elim
  | succ n ih =>
    intro i hi h
    by_cases hs : stp T k i
    · simp only [fds, fdn, if_pos hs]
      exact ⟨(ad_0 hi).symm, by omega, hs, fun d hd => absurd hd (by omega)⟩
    · simp only [fds, fdn, if_neg hs]
      have h' : en cap T k n (nx cap i) := by rcases h with h | h; exact absurd h hs; exact h
      obtain ⟨h1, h2, h3, h4⟩ := ih (nx cap i) (Nat.mod_lt _ hc) h'
      refine ⟨by rw [h1, ad_nx], by omega, h3, fun d hd => ?_⟩
      cases d with
      | zero => rw [ad_0 hi]; exact hs
      | succ d => rw [← ad_nx]; exact h4 d (by omega)
theorem en_of {cap : Nat} {T : Tb} {k : Int32} : ∀ (n i d : Nat), i < cap → d < n → stp T k (ad cap i d) → en cap T k n i := by
  intro n
  induction n with
  | zero => intro i d _ h; omega
  | succ n ih =>
    intro i d hi hd h
    cases d with
    | zero => rw [ad_0 hi] at h; exact Or.inl h
    | succ d => rw [← ad_nx] at h; exact Or.inr (ih _ d (Nat.mod_lt _ (by omega)) (by omega) h)
theorem enz_spec {cap : Nat} {st : Nat → Int32} (hc : 0 < cap) : ∀ (n i d : Nat), i < cap → d < n → st (ad cap i d) = 0 → enz cap st n i := by
  intro n
  induction n with
  | zero => intro i d _ h; omega
  | succ n ih =>
    intro i d hi hd h
    cases d with
    | zero => rw [ad_0 hi] at h; exact Or.inl h
    | succ d => rw [← ad_nx] at h; exact Or.inr (ih _ d (Nat.mod_lt _ hc) (by omega) h)
/-- an empty slot ends every look -/
theorem fok_of {cap : Nat} {T : Tb} (hc : pw cap) (k : Int32) (h : ∃ z, z < cap ∧ T.2.2 z = 0) : fok cap T k := by
  obtain ⟨z, hz, h0⟩ := h
  have hh := hm_lt hc k
  exact en_of cap _ (ds cap (hm cap k) z) hh (ds_lt hc _ _) (by rw [ad_ds hh hz]; exact Or.inl h0)
theorem enz_of {cap : Nat} {st : Nat → Int32} (hc : pw cap) {i : Nat} (hi : i < cap) (h : ∃ z, z < cap ∧ st z = 0) : enz cap st cap i := by
  obtain ⟨z, hz, h0⟩ := h
  exact enz_spec (by omega) cap _ (ds cap i z) hi (ds_lt hc _ _) (by rw [ad_ds hi hz]; exact h0)
/-- every key can be reached from its home -/
def PR (cap : Nat) (T : Tb) : Prop := ∀ j, j < cap → T.2.2 j = 1 → ∀ d, d < ds cap (hm cap (T.1 j)) j → ¬ T.2.2 (ad cap (hm cap (T.1 j)) d) = 0
def UQ (cap : Nat) (T : Tb) : Prop := ∀ i j, i < cap → j < cap → T.2.2 i = 1 → T.2.2 j = 1 → T.1 i = T.1 j → i = j
theorem fsl_spec {cap : Nat} {T : Tb} {k : Int32} (hc : pw cap) (h : fok cap T k) : fsl cap T k < cap ∧ stp T k (fsl cap T k) ∧ ∃ d, d < cap ∧ fsl cap T k = ad cap (hm cap k) d ∧ ∀ e, e < d → ¬ stp T k (ad cap (hm cap k) e) := by
  obtain ⟨h1, h2, h3, h4⟩ := en_spec (T := T) (k := k) (by have := hc.ge; omega) cap (hm cap k) (hm_lt hc k) h
  exact ⟨by unfold fsl; rw [h1]; exact ad_lt hc _ _, h3, _, h2, h1, h4⟩
theorem fsl_held {cap : Nat} {T : Tb} {k : Int32} (hc : pw cap) (h : fok cap T k) (h0 : ¬ T.2.2 (fsl cap T k) = 0) : T.2.2 (fsl cap T k) = 1 ∧ T.1 (fsl cap T k) = k := by
  rcases (fsl_spec hc h).2.1 with q | q
  · exact absurd q h0
  · exact q
/-- where no key is found, there is none -/
theorem fsl_none {cap : Nat} {T : Tb} {k : Int32} (hc : pw cap) (h : fok cap T k) (hp : PR cap T) (h0 : T.2.2 (fsl cap T k) = 0) : ∀ j, j < cap → T.2.2 j = 1 → ¬ T.1 j = k := by
  intro j hj h1 hk
  obtain ⟨g1, g2, d, g3, g4, g5⟩ := fsl_spec hc h
  have hh := hm_lt hc k
  have hD := ds_lt hc (hm cap k) j
  have hpj := hp j hj h1
  rw [hk] at hpj
  have hjj := ad_ds hh hj
  rcases Nat.lt_trichotomy d (ds cap (hm cap k) j) with q | q | q
  · exact hpj d q (by rw [← g4]; exact h0)
  · rw [q, hjj] at g4
    rw [g4, h1] at h0
    exact absurd h0 (by decide)
  · exact g5 _ q (by rw [hjj]; exact Or.inr ⟨h1, hk⟩)
theorem upd_at (f : Nat → Int32) (i : Nat) (x : Int32) : upd f i x i = x := by simp [upd]
theorem upd_ne (f : Nat → Int32) {i j : Nat} (x : Int32) (h : ¬ j = i) : upd f i x j = f j := by simp [upd, h]
/-- a key is laid where looking for it ended -/
theorem tput_PR {cap : Nat} {T : Tb} {k v : Int32} (hc : pw cap) (h : fok cap T k) (hp : PR cap T) (h0 : T.2.2 (fsl cap T k) = 0) : PR cap (tput T (fsl cap T k) k v) := by
  obtain ⟨g1, g2, d, g3, g4, g5⟩ := fsl_spec hc h
  have hh := hm_lt hc k
  intro j hj h1 e he
  have nz : ∀ q, ¬ T.2.2 q = 0 → ¬ (tput T (fsl cap T k) k v).2.2 q = 0 := by
    intro q hq
    show ¬ upd T.2.2 _ 1 q = 0
    unfold upd
    split
    · decide
    · exact hq
  by_cases hjf : j = fsl cap T k
  · have hkj : (tput T (fsl cap T k) k v).1 j = k := by rw [hjf]; exact upd_at _ _ _
    rw [hkj] at he ⊢
    rw [hjf, g4, ds_ad hh g3] at he
    apply nz
    intro q
    exact g5 e he (Or.inl q)
  · have hkj : (tput T (fsl cap T k) k v).1 j = T.1 j := upd_ne _ _ hjf
    have hsj : T.2.2 j = 1 := by rw [← h1]; exact (upd_ne _ _ hjf).symm
    rw [hkj] at he ⊢
    exact nz _ (hp j hj hsj e he)
theorem tput_UQ {cap : Nat} {T : Tb} {k v : Int32} {f : Nat} (hu : UQ cap T) (hn : ∀ j, j < cap → T.2.2 j = 1 → ¬ T.1 j = k) : UQ cap (tput T f k v) := by
  intro i j hi hj h1 h2 he
  have a1 : ∀ q, ¬ q = f → (tput T f k v).1 q = T.1 q ∧ (tput T f k v).2.2 q = T.2.2 q := fun q hq => ⟨upd_ne _ _ hq, upd_ne _ _ hq⟩
  have a2 : (tput T f k v).1 f = k := upd_at _ _ _
  by_cases hif : i = f <;> by_cases hjf : j = f
  · rw [hif, hjf]
  · rw [hif, a2, (a1 j hjf).1] at he
    rw [(a1 j hjf).2] at h2
    exact absurd he.symm (hn j hj h2)
  · rw [hjf, a2, (a1 i hif).1] at he
    rw [(a1 i hif).2] at h1
    exact absurd he (hn i hi h1)
  · rw [(a1 i hif).1, (a1 j hjf).1] at he
    rw [(a1 i hif).2] at h1
    rw [(a1 j hjf).2] at h2
    exact hu i j hi hj h1 h2 he
/-- closing up: the state of its loop (f is free, the slots up to the m-th behind it are looked through) -/
def CI (cap : Nat) (T : Tb) (f m : Nat) (ks : Nat → Int32) : Prop :=
  f < cap ∧ 1 ≤ m ∧ T.2.2 f = 1 ∧ (∀ d, 1 ≤ d → d < m → ¬ T.2.2 (ad cap f d) = 0) ∧
  (∀ j, j < cap → ¬ j = f → T.2.2 j = 1 → ∀ d, d < ds cap (hm cap (ks j)) j → ¬ T.2.2 (ad cap (hm cap (ks j)) d) = 0 ∧ (ad cap (hm cap (ks j)) d = f → m ≤ ds cap f j)) ∧
  (∀ i j, i < cap → j < cap → ¬ i = f → ¬ j = f → T.2.2 i = 1 → T.2.2 j = 1 → ks i = ks j → i = j) ∧
  (∀ j, j < cap → ¬ j = f → T.2.2 j = 1 → ∃ j0, j0 < cap ∧ T.2.2 j0 = 1 ∧ T.1 j0 = ks j)
theorem nx_ad (cap f m : Nat) : nx cap (ad cap f m) = ad cap f (m + 1) := by
  unfold nx ad
  rw [Nat.mod_add_mod]
  congr 1
theorem ad_ad (cap a d m : Nat) : ad cap (ad cap a d) m = ad cap a (d + m) := by
  unfold ad
  rw [Nat.mod_add_mod]
  congr 1
  omega
theorem ds_pos {cap a b : Nat} (ha : a < cap) (hb : b < cap) (h : ¬ a = b) : 1 ≤ ds cap a b := by
  rw [ds_eq ha hb]
  split <;> omega
theorem ds_self {cap a : Nat} (ha : a < cap) : ds cap a a = 0 := by
  rw [ds_eq ha ha]; simp
theorem ds_sub {cap a f m : Nat} (ha : a < cap) (hf : f < cap) (hm : m < cap) (h : m ≤ ds cap a (ad cap f m)) : ds cap a f + m = ds cap a (ad cap f m) := by
  have hl : ad cap f m < cap := Nat.mod_lt _ (by omega)
  have e1 := ds_eq ha hl
  have e2 := ds_eq ha hf
  have e3 := ad_eq hf hm
  split at e1 <;> split at e2 <;> split at e3 <;> omega
theorem ds_split {cap a b d : Nat} (ha : a < cap) (hb : b < cap) (h : d < ds cap a b) : ds cap (ad cap a d) b + d = ds cap a b := by
  have hD : ds cap a b < cap := Nat.mod_lt _ (by omega)
  have hl : ad cap a d < cap := Nat.mod_lt _ (by omega)
  have e1 := ds_eq hl hb
  have e2 := ds_eq ha hb
  have e3 := ad_eq (d := d) ha (by omega)
  split at e1 <;> split at e2 <;> split at e3 <;> omega
theorem CI.lt {cap : Nat} {T : Tb} {f m : Nat} {ks : Nat → Int32} (h : CI cap T f m ks) (hz : ∃ z, z < cap ∧ T.2.2 z = 0) : m < cap := by
  obtain ⟨z, hz, h0⟩ := hz
  obtain ⟨h1, h2, h3, h4, -⟩ := h
  rcases Nat.lt_or_ge m cap with q | q
  · exact q
  · have hne : ¬ f = z := fun e => by rw [e, h0] at h3; exact absurd h3 (by decide)
    have hd := ds_pos h1 hz hne
    have hl : ds cap f z < cap := Nat.mod_lt _ (by omega)
    exact absurd (by rw [ad_ds h1 hz]; exact h0) (h4 (ds cap f z) hd (by omega))
theorem cu_spec {cap : Nat} {T : Tb} (hc : pw cap) (h01 : ∀ j, j < cap → T.2.2 j = 0 ∨ T.2.2 j = 1) (hz : ∃ z, z < cap ∧ T.2.2 z = 0) : ∀ (n f m : Nat) (ks vs : Nat → Int32), CI cap T f m ks → enz cap T.2.2 n (ad cap f m) →
    (cu cap T.2.2 n f (ad cap f m) ks vs).1 < cap ∧ T.2.2 (cu cap T.2.2 n f (ad cap f m) ks vs).1 = 1 ∧ PR cap ((cu cap T.2.2 n f (ad cap f m) ks vs).2.1, (cu cap T.2.2 n f (ad cap f m) ks vs).2.2, upd T.2.2 (cu cap T.2.2 n f (ad cap f m) ks vs).1 0) ∧
    UQ cap ((cu cap T.2.2 n f (ad cap f m) ks vs).2.1, (cu cap T.2.2 n f (ad cap f m) ks vs).2.2, upd T.2.2 (cu cap T.2.2 n f (ad cap f m) ks vs).1 0) ∧
    ∀ j, j < cap → upd T.2.2 (cu cap T.2.2 n f (ad cap f m) ks vs).1 0 j = 1 → ∃ j0, j0 < cap ∧ T.2.2 j0 = 1 ∧ T.1 j0 = (cu cap T.2.2 n f (ad cap f m) ks vs).2.1 j := by
  intro n
  induction n with
  | zero => intro f m ks vs _ h; exact h.elim
  | succ n ih =>
    intro f m ks vs hC he
    have hmc := hC.lt hz
    obtain ⟨h1, h2, h3, h4, h5, h6, h7⟩ := id hC
    have hi : ad cap f m < cap := ad_lt hc _ _
    have hfi : ds cap f (ad cap f m) = m := ds_ad h1 hmc
    have hif : ¬ ad cap f m = f := fun e => by rw [e, ds_self h1] at hfi; omega
    by_cases h0 : T.2.2 (ad cap f m) = 0
    · simp only [cu, if_pos h0]
      have hne : ∀ j, upd T.2.2 f 0 j = 1 → ¬ j = f ∧ T.2.2 j = 1 := by
        intro j hj
        have hjf : ¬ j = f := fun e => by rw [e, upd_at] at hj; exact absurd hj (by decide)
        exact ⟨hjf, by rw [← hj]; exact (upd_ne _ _ hjf).symm⟩
      refine ⟨h1, h3, ?_, ?_, ?_⟩
      · intro j hj hs d hd
        obtain ⟨hjf, hs⟩ := hne j hs
        obtain ⟨g1, g2⟩ := h5 j hj hjf hs d hd
        have hh := hm_lt hc (ks j)
        by_cases e : ad cap (hm cap (ks j)) d = f
        · exfalso
          have g3 := g2 e
          have g4 := ds_split hh hj hd
          have g4 : ds cap f j + d = ds cap (hm cap (ks j)) j := by rw [← e]; exact g4
          rcases Nat.lt_or_ge m (ds cap f j) with q | q
          · have g5 := (h5 j hj hjf hs (d + m) (by omega)).1
            have e2 : ad cap (hm cap (ks j)) (d + m) = ad cap f m := by rw [← ad_ad, e]
            rw [e2] at g5
            exact g5 h0
          · have e3 : ds cap f j = m := by omega
            have e4 : j = ad cap f m := by rw [← e3]; exact (ad_ds h1 hj).symm
            rw [e4, h0] at hs
            exact absurd hs (by decide)
        · show ¬ upd T.2.2 f 0 _ = 0
          rw [upd_ne _ _ e]
          exact g1
      · intro i j hi hj hs1 hs2 hk
        obtain ⟨a1, a2⟩ := hne i hs1
        obtain ⟨b1, b2⟩ := hne j hs2
        exact h6 i j hi hj a1 b1 a2 b2 hk
      · intro j hj hs
        obtain ⟨a1, a2⟩ := hne j hs
        exact h7 j hj a1 a2
    · have hs1 : T.2.2 (ad cap f m) = 1 := by rcases h01 _ hi with q | q; exact absurd q h0; exact q
      have he' : enz cap T.2.2 n (nx cap (ad cap f m)) := by rcases he with q | q; exact absurd q h0; exact q
      by_cases hA : ds cap f (ad cap f m) ≤ ds cap (hm cap (ks (ad cap f m))) (ad cap f m)
      · simp only [cu, if_neg h0, if_pos hA]
        have hn1 : nx cap (ad cap f m) = ad cap (ad cap f m) 1 := rfl
        rw [hn1] at he' ⊢
        refine ih (ad cap f m) 1 (upd ks f (ks (ad cap f m))) (upd vs f (vs (ad cap f m))) ⟨hi, Nat.le_refl 1, hs1, fun d q1 q2 => by omega, ?_, ?_, ?_⟩ he'
        · intro j hj hji hs d hd
          by_cases hjf : j = f
          · rw [hjf, upd_at] at hd ⊢
            have hh := hm_lt hc (ks (ad cap f m))
            rw [hfi] at hA
            have g := ds_sub hh h1 hmc hA
            refine ⟨(h5 _ hi hif hs1 d (by omega)).1, fun _ => ds_pos hi h1 hif⟩
          · rw [upd_ne _ _ hjf] at hd ⊢
            exact ⟨(h5 j hj hjf hs d hd).1, fun _ => ds_pos hi hj (fun e => hji e.symm)⟩
        · intro a b ha hb ha' hb' sa sb hk
          by_cases haf : a = f <;> by_cases hbf : b = f
          · rw [haf, hbf]
          · rw [haf, upd_at, upd_ne _ _ hbf] at hk
            exact absurd (h6 _ b hi hb hif hbf hs1 sb hk).symm hb'
          · rw [hbf, upd_at, upd_ne _ _ haf] at hk
            exact absurd (h6 a _ ha hi haf hif sa hs1 hk) ha'
          · rw [upd_ne _ _ haf, upd_ne _ _ hbf] at hk
            exact h6 a b ha hb haf hbf sa sb hk
        · intro j hj hji hs
          by_cases hjf : j = f
          · rw [hjf, upd_at]; exact h7 _ hi hif hs1
          · rw [upd_ne _ _ hjf]; exact h7 j hj hjf hs
      · simp only [cu, if_neg h0, if_neg hA]
        rw [nx_ad] at he' ⊢
        refine ih f (m + 1) ks vs ⟨h1, by omega, h3, fun d q1 q2 => ?_, ?_, h6, h7⟩ he'
        · by_cases hd : d = m
          · rw [hd]; exact h0
          · exact h4 d q1 (by omega)
        · intro j hj hjf hs d hd
          obtain ⟨g1, g2⟩ := h5 j hj hjf hs d hd
          refine ⟨g1, fun e => ?_⟩
          have g3 := g2 e
          rcases Nat.lt_or_ge m (ds cap f j) with q | q
          · exact q
          · exfalso
            have e3 : ds cap f j = m := by omega
            have e4 : j = ad cap f m := by rw [← e3]; exact (ad_ds h1 hj).symm
            have hh := hm_lt hc (ks j)
            have g4 := ds_split hh hj hd
            rw [e, e3] at g4
            rw [hfi, ← e4] at hA
            omega
/-- closing up keeps the table good -/
theorem cup_spec {cap : Nat} {T : Tb} {s : Nat} (hc : pw cap) (h01 : ∀ j, j < cap → T.2.2 j = 0 ∨ T.2.2 j = 1) (hz : ∃ z, z < cap ∧ T.2.2 z = 0) (hs : s < cap) (h1 : T.2.2 s = 1) (hp : PR cap T) (hu : UQ cap T) :
    (cur3 cap T s).1 < cap ∧ T.2.2 (cur3 cap T s).1 = 1 ∧ PR cap (cup cap T s) ∧ UQ cap (cup cap T s) ∧ ∀ j, j < cap → (cup cap T s).2.2 j = 1 → ∃ j0, j0 < cap ∧ T.2.2 j0 = 1 ∧ T.1 j0 = (cup cap T s).1 j := by
  refine cu_spec hc h01 hz cap s 1 T.1 T.2.1 ⟨hs, Nat.le_refl 1, h1, fun d q1 q2 => by omega, ?_, ?_, ?_⟩ (enz_of hc (ad_lt hc _ _) hz)
  · intro j hj hjs hsj d hd
    exact ⟨hp j hj hsj d hd, fun _ => ds_pos hs hj (fun e => hjs e.symm)⟩
  · intro i j hi hj _ _ a b k
    exact hu i j hi hj a b k
  · intro j hj _ a
    exact ⟨j, hj, a, rfl⟩
/-- how many slots are held -/
def hc (st : Nat → Int32) : Nat → Nat
  | 0 => 0
  | n + 1 => hc st n + (if st n = 1 then 1 else 0)
theorem hc_le (st : Nat → Int32) (n : Nat) : hc st n ≤ n := by
  induction n with
  | zero => exact Nat.le_refl 0
  | succ n ih => simp only [hc]; split <;> omega
theorem hc_out (st : Nat → Int32) (n i : Nat) (x : Int32) (h : n ≤ i) : hc (upd st i x) n = hc st n := by
  induction n with
  | zero => rfl
  | succ n ih => simp only [hc]; rw [ih (by omega), upd_ne _ _ (by omega)]
theorem hc_upd (st : Nat → Int32) (n i : Nat) (x : Int32) (h : i < n) : hc (upd st i x) n + (if st i = 1 then 1 else 0) = hc st n + (if x = 1 then 1 else 0) := by
  induction n with
  | zero => omega
  | succ n ih =>
    simp only [hc]
    by_cases hi : i = n
    · subst hi
      rw [hc_out _ _ _ _ (Nat.le_refl _), upd_at]
      omega
    · rw [upd_ne _ _ (by omega)]
      have := ih (by omega)
      omega
theorem hc_clr (st : Nat → Int32) (n m : Nat) (h : n ≤ m) : hc (clr st m) n = 0 := by
  induction n with
  | zero => rfl
  | succ n ih =>
    simp only [hc]
    rw [ih (by omega)]
    have : clr st m n = 0 := by unfold clr; rw [if_pos (by omega)]
    rw [this]; decide
theorem hc_free {st : Nat → Int32} {n : Nat} (h : hc st n < n) : ∃ z, z < n ∧ ¬ st z = 1 := by
  induction n with
  | zero => omega
  | succ n ih =>
    by_cases h1 : st n = 1
    · simp only [hc, if_pos h1] at h
      obtain ⟨z, hz, hs⟩ := ih (by omega)
      exact ⟨z, by omega, hs⟩
    · exact ⟨n, by omega, h1⟩
theorem hc_pos {st : Nat → Int32} {n i : Nat} (hi : i < n) (h : st i = 1) : 1 ≤ hc st n := by
  have := hc_upd st n i 0 hi
  rw [if_pos h, if_neg (by decide)] at this
  omega
end
section
/-! The map, purely: one state, what each call answers and leaves, and what always holds -/
/-- capacity and slots of the new table, those of the old one, cursor, count, work -/
abbrev Sm : Type := Nat × Tb × Nat × Tb × Nat × Nat × Int32
def mvc (oc cur : Nat) : Nat := min 4 (oc - cur)
def s2 (fc : Nat) (F O : Tb) (cnt : Nat) (wk : Int32) : Sm :=
  if 3 * fc ≤ 4 * cnt then (2 * fc, (O.1, O.2.1, clr O.2.2 (2 * fc)), fc, F, 0, cnt, wk)
  else if 8 * cnt ≤ fc ∧ 8 < fc then (fc / 2, (O.1, O.2.1, clr O.2.2 (fc / 2)), fc, F, 0, cnt, wk)
  else (fc, F, 0, O, 0, cnt, wk)
def stw (fc : Nat) (F : Tb) (oc : Nat) (O : Tb) (cur w : Nat) : Nat := if cur < oc then w + ((mvn fc (mvc oc cur) cur F O).2.2 + mvc oc cur) else w
def stl (fc : Nat) (F : Tb) (oc : Nat) (O : Tb) (cur cnt : Nat) (wk : Int32) : Sm :=
  if cur < oc then (if cur + mvc oc cur < oc then (fc, (mvn fc (mvc oc cur) cur F O).1, oc, (mvn fc (mvc oc cur) cur F O).2.1, cur + mvc oc cur, cnt, wk) else s2 fc (mvn fc (mvc oc cur) cur F O).1 (mvn fc (mvc oc cur) cur F O).2.1 cnt wk)
  else s2 fc F O cnt wk
def wkc (fc : Nat) (F : Tb) (oc : Nat) (O : Tb) (cur : Nat) (k : Int32) : Nat := if F.2.2 (fsl fc F k) = 1 then fct fc F k else fct fc F k + (if cur < oc then fct oc O k else 0)
def full (hf fc oc cur cnt : Nat) : Prop := ¬ 4 < oc - cur ∧ 3 * fc ≤ 4 * (cnt + 1) ∧ hf < 2 * fc
abbrev inO (oc : Nat) (O : Tb) (cur : Nat) (k : Int32) : Prop := cur < oc ∧ O.2.2 (fsl oc O k) = 1
def MC (fc : Nat) (F : Tb) (oc : Nat) (O : Tb) (c cnt : Nat) : Prop :=
  (∀ j, j < fc → F.2.2 j = 0 ∨ F.2.2 j = 1) ∧ PR fc F ∧ UQ fc F ∧ PR oc O ∧ UQ oc O ∧ (∃ z, z < oc ∧ O.2.2 z = 0) ∧ (∀ j, j < c → ¬ O.2.2 j = 1) ∧
  (∀ i j, i < fc → j < oc → F.2.2 i = 1 → O.2.2 j = 1 → ¬ F.1 i = O.1 j) ∧ cnt = hc F.2.2 fc + hc O.2.2 oc
theorem zero_of {fc : Nat} {F : Tb} (h : ∀ j, j < fc → F.2.2 j = 0 ∨ F.2.2 j = 1) (hl : hc F.2.2 fc < fc) : ∃ z, z < fc ∧ F.2.2 z = 0 := by
  obtain ⟨z, hz, h1⟩ := hc_free hl
  rcases h z hz with q | q
  · exact ⟨z, hz, q⟩
  · exact absurd q h1
theorem mv1_spec {fc : Nat} {F : Tb} {oc : Nat} {O : Tb} {c cnt : Nat} (hp : pw fc) (h : MC fc F oc O c cnt) (hc1 : c < oc) (hl : cnt < fc) :
    (O.2.2 c = 1 → fok fc F (O.1 c) ∧ F.2.2 (fsl fc F (O.1 c)) = 0) ∧ MC fc (mv1 fc F O c).1 oc (mv1 fc F O c).2.1 (c + 1) cnt := by
  obtain ⟨h1, h2, h3, h4, h5, h6, h7, h8, h9⟩ := h
  by_cases hs : O.2.2 c = 1
  · have hz : ∃ z, z < fc ∧ F.2.2 z = 0 := zero_of h1 (by omega)
    have hf := fok_of hp (O.1 c) hz
    have hno : ∀ j, j < fc → F.2.2 j = 1 → ¬ F.1 j = O.1 c := fun j hj hj1 => h8 j c hj hc1 hj1 hs
    have hsl := fsl_spec hp hf
    have h0 : F.2.2 (fsl fc F (O.1 c)) = 0 := by
      by_cases q : F.2.2 (fsl fc F (O.1 c)) = 0
      · exact q
      · obtain ⟨a, b⟩ := fsl_held hp hf q
        exact absurd b (hno _ hsl.1 a)
    refine ⟨fun _ => ⟨hf, h0⟩, ?_⟩
    have e : mv1 fc F O c = (tput F (fsl fc F (O.1 c)) (O.1 c) (O.2.1 c), (O.1, O.2.1, upd O.2.2 c 2), fct fc F (O.1 c)) := by unfold mv1; rw [if_pos hs]
    rw [e]
    have ho : ∀ j, upd O.2.2 c 2 j = 1 → ¬ j = c ∧ O.2.2 j = 1 := by
      intro j hj
      have hjc : ¬ j = c := fun e => by rw [e, upd_at] at hj; exact absurd hj (by decide)
      exact ⟨hjc, by rw [← hj]; exact (upd_ne _ _ hjc).symm⟩
    refine ⟨?_, tput_PR hp hf h2 h0, tput_UQ h3 hno, ?_, ?_, ?_, ?_, ?_, ?_⟩
    · intro j hj
      show upd F.2.2 _ 1 j = 0 ∨ upd F.2.2 _ 1 j = 1
      unfold upd
      split
      · exact Or.inr rfl
      · exact h1 j hj
    · intro j hj hj1 d hd
      obtain ⟨a, b⟩ := ho j hj1
      have := h4 j hj b d hd
      show ¬ upd O.2.2 c 2 _ = 0
      unfold upd
      split
      · decide
      · exact this
    · intro i j hi hj a b k
      exact h5 i j hi hj (ho i a).2 (ho j b).2 k
    · obtain ⟨z, hz, hz0⟩ := h6
      refine ⟨z, hz, ?_⟩
      show upd O.2.2 c 2 z = 0
      rw [upd_ne _ _ (fun e => by rw [e, hs] at hz0; exact absurd hz0 (by decide))]
      exact hz0
    · intro j hj hj1
      obtain ⟨a, b⟩ := ho j hj1
      exact h7 j (by omega) b
    · intro i j hi hj a b
      obtain ⟨b1, b2⟩ := ho j b
      by_cases hie : i = fsl fc F (O.1 c)
      · have : (tput F (fsl fc F (O.1 c)) (O.1 c) (O.2.1 c)).1 i = O.1 c := by rw [hie]; exact upd_at _ _ _
        rw [this]
        intro q
        exact b1 (h5 c j hc1 hj hs b2 q).symm
      · have e1 : (tput F (fsl fc F (O.1 c)) (O.1 c) (O.2.1 c)).1 i = F.1 i := upd_ne _ _ hie
        have e2 : (tput F (fsl fc F (O.1 c)) (O.1 c) (O.2.1 c)).2.2 i = F.2.2 i := upd_ne _ _ hie
        rw [e2] at a
        rw [e1]
        exact h8 i j hi hj a b2
    · have a1 := hc_upd F.2.2 fc _ 1 hsl.1
      rw [h0, if_neg (by decide), if_pos rfl] at a1
      have a2 := hc_upd O.2.2 oc c 2 hc1
      rw [if_pos hs, if_neg (by decide)] at a2
      show cnt = hc (upd F.2.2 _ 1) fc + hc (upd O.2.2 c 2) oc
      omega
  · refine ⟨fun q => absurd q hs, ?_⟩
    have e : mv1 fc F O c = (F, O, 0) := by unfold mv1; rw [if_neg hs]
    rw [e]
    refine ⟨h1, h2, h3, h4, h5, h6, ?_, h8, h9⟩
    intro j hj
    by_cases q : j = c
    · rw [q]; exact hs
    · exact h7 j (by omega)
theorem mvn_spec {fc oc cnt : Nat} (hp : pw fc) (hl : cnt < fc) : ∀ (n c : Nat) (F O : Tb), MC fc F oc O c cnt → c + n ≤ oc → mok fc n c F O ∧ MC fc (mvn fc n c F O).1 oc (mvn fc n c F O).2.1 (c + n) cnt := by
  intro n
  induction n with
  | zero => intro c F O h _; exact ⟨trivial, h⟩
  | succ n ih =>
    intro c F O h hn
    obtain ⟨a, b⟩ := mv1_spec hp h (by omega) hl
    obtain ⟨g1, g2⟩ := ih (c + 1) _ _ b (by omega)
    refine ⟨⟨a, g1⟩, ?_⟩
    rw [show c + (n + 1) = c + 1 + n by omega]
    exact g2
theorem hc_zero {st : Nat → Int32} {n : Nat} (h : ∀ j, j < n → ¬ st j = 1) : hc st n = 0 := by
  induction n with
  | zero => rfl
  | succ n ih => simp only [hc]; rw [ih (fun j hj => h j (by omega)), if_neg (h n (by omega))]
/-- what always holds -/
def Iv (hf fc : Nat) (F : Tb) (oc : Nat) (O : Tb) (cur cnt : Nat) : Prop :=
  pw hf ∧ pw fc ∧ fc ≤ hf ∧ (∀ j, j < fc → F.2.2 j = 0 ∨ F.2.2 j = 1) ∧ PR fc F ∧ UQ fc F ∧
  ((oc = 0 ∧ cur = 0 ∧ cnt = hc F.2.2 fc ∧ 4 * cnt < 3 * fc) ∨
   (pw oc ∧ oc ≤ hf ∧ cur < oc ∧ cur % 4 = 0 ∧ MC fc F oc O cur cnt ∧ 4 * cnt + (oc - cur) ≤ 3 * fc ∧ (4 * cnt + (oc - cur) < 3 * fc ∨ 2 * fc ≤ hf)))
abbrev IvS (hf : Nat) (S : Sm) : Prop := Iv hf S.1 S.2.1 S.2.2.1 S.2.2.2.1 S.2.2.2.2.1 S.2.2.2.2.2.1
/-- the tables change places -/
theorem ch_Iv {hf fc m : Nat} {F : Tb} {O : Tb} {cnt : Nat} {wk : Int32} (hhf : pw hf) (hfc : pw fc) (hfh : fc ≤ hf) (h01 : ∀ j, j < fc → F.2.2 j = 0 ∨ F.2.2 j = 1) (hP : PR fc F) (hU : UQ fc F) (hn : cnt = hc F.2.2 fc) (hl : cnt < fc) (hm : pw m) (hmh : m ≤ hf)
    (hld : 4 * cnt + fc ≤ 3 * m ∧ (4 * cnt + fc < 3 * m ∨ 2 * m ≤ hf)) : IvS hf (m, (O.1, O.2.1, clr O.2.2 m), fc, F, 0, cnt, wk) := by
  have h0 : ∀ j, j < m → clr O.2.2 m j = 0 := fun j hj => by unfold clr; rw [if_pos hj]
  have h1 : ∀ j, j < m → ¬ clr O.2.2 m j = 1 := fun j hj => by rw [h0 j hj]; decide
  have p1 : PR m (O.1, O.2.1, clr O.2.2 m) := fun j hj a => absurd a (h1 j hj)
  have p2 : UQ m (O.1, O.2.1, clr O.2.2 m) := fun i j hi hj a => absurd a (h1 i hi)
  show Iv hf m (O.1, O.2.1, clr O.2.2 m) fc F 0 cnt
  refine ⟨hhf, hm, hmh, fun j hj => Or.inl (h0 j hj), p1, p2, Or.inr ⟨hfc, hfh, by have := hfc.ge; omega, rfl, ⟨fun j hj => Or.inl (h0 j hj), p1, p2, hP, hU, zero_of h01 (by omega), fun j hj => by omega, fun i j hi hj a => absurd a (h1 i hi), ?_⟩, by simpa using hld.1, by simpa using hld.2⟩⟩
  show cnt = hc (clr O.2.2 m) m + hc F.2.2 fc
  rw [hc_clr _ _ _ (Nat.le_refl m)]
  omega
theorem s2_Iv {hf fc : Nat} {F : Tb} {O : Tb} {cnt : Nat} {wk : Int32} (hhf : pw hf) (hfc : pw fc) (hfh : fc ≤ hf) (h01 : ∀ j, j < fc → F.2.2 j = 0 ∨ F.2.2 j = 1) (hP : PR fc F) (hU : UQ fc F) (hn : cnt = hc F.2.2 fc) (hld : 4 * cnt ≤ 3 * fc) (hgr : 3 * fc ≤ 4 * cnt → 2 * fc ≤ hf) : IvS hf (s2 fc F O cnt wk) := by
  have hg := hfc.ge
  have h8 := hfc.m8
  unfold s2
  split
  · rename_i q
    have q2 := hgr q
    exact ch_Iv hhf hfc hfh h01 hP hU hn (by omega) (hfc.dbl (by have := hhf.le; omega)) q2 ⟨by omega, Or.inl (by omega)⟩
  · rename_i q
    split
    · rename_i q1
      exact ch_Iv hhf hfc hfh h01 hP hU hn (by omega) (hfc.half q1.2) (by omega) ⟨by omega, Or.inr (by omega)⟩
    · show Iv hf fc F 0 O 0 cnt
      exact ⟨hhf, hfc, hfh, h01, hP, hU, Or.inl ⟨rfl, rfl, hn, by omega⟩⟩
/-- what must hold where 'settle' begins -/
def SI (hf fc : Nat) (F : Tb) (oc : Nat) (O : Tb) (cur cnt : Nat) : Prop :=
  pw hf ∧ pw fc ∧ fc ≤ hf ∧ (∀ j, j < fc → F.2.2 j = 0 ∨ F.2.2 j = 1) ∧ PR fc F ∧ UQ fc F ∧
  ((oc = 0 ∧ cur = 0 ∧ cnt = hc F.2.2 fc ∧ 4 * cnt ≤ 3 * fc ∧ (3 * fc ≤ 4 * cnt → 2 * fc ≤ hf)) ∨
   (pw oc ∧ oc ≤ hf ∧ cur < oc ∧ cur % 4 = 0 ∧ MC fc F oc O cur cnt ∧ 4 * cnt + (oc - cur) ≤ 3 * fc + 4 ∧ (4 * cnt + (oc - cur) < 3 * fc + 4 ∨ 2 * fc ≤ hf)))
theorem mvc4 {oc cur : Nat} (ho : pw oc) (h : cur < oc) (h4 : cur % 4 = 0) : mvc oc cur = 4 ∧ cur + 4 ≤ oc := by
  have := ho.m8
  unfold mvc
  omega
theorem SI.mok {hf fc : Nat} {F : Tb} {oc : Nat} {O : Tb} {cur cnt : Nat} (h : SI hf fc F oc O cur cnt) (hm : cur < oc) : mok fc (mvc oc cur) cur F O := by
  obtain ⟨h1, h2, h3, h4, h5, h6, h7⟩ := h
  rcases h7 with h7 | ⟨g1, g2, g3, g4, g5, g6, g7⟩
  · omega
  · obtain ⟨e1, e2⟩ := mvc4 g1 g3 g4
    rw [e1]
    exact (mvn_spec h2 (by have := h2.ge; omega) 4 cur F O g5 e2).1
/-- what settle's second half stands on -/
theorem SI.half {hf fc : Nat} {F : Tb} {oc : Nat} {O : Tb} {cur cnt : Nat} (h : SI hf fc F oc O cur cnt) : (cur < oc → ¬ cur + mvc oc cur < oc → (3 * fc ≤ 4 * cnt → 2 * fc ≤ hf)) ∧ (¬ cur < oc → (3 * fc ≤ 4 * cnt → 2 * fc ≤ hf) ∧ oc = 0 ∧ cur = 0) := by
  obtain ⟨h1, h2, h3, h4, h5, h6, h7⟩ := h
  rcases h7 with ⟨g1, g2, g3, g4, g5⟩ | ⟨g1, g2, g3, g4, g5, g6, g7⟩
  · exact ⟨fun q => by omega, fun _ => ⟨g5, g1, g2⟩⟩
  · obtain ⟨e1, e2⟩ := mvc4 g1 g3 g4
    refine ⟨fun _ q r => ?_, fun q => absurd g3 q⟩
    rw [e1] at q
    omega
theorem stl_Iv {hf fc : Nat} {F : Tb} {oc : Nat} {O : Tb} {cur cnt : Nat} {wk : Int32} (h : SI hf fc F oc O cur cnt) : IvS hf (stl fc F oc O cur cnt wk) := by
  obtain ⟨h1, h2, h3, h4, h5, h6, h7⟩ := h
  have hg := h2.ge
  have h8 := h2.m8
  rcases h7 with ⟨g1, g2, g3, g4, g5⟩ | ⟨g1, g2, g3, g4, g5, g6, g7⟩
  · unfold stl
    rw [if_neg (by omega)]
    exact s2_Iv h1 h2 h3 h4 h5 h6 g3 g4 g5
  · obtain ⟨e1, e2⟩ := mvc4 g1 g3 g4
    unfold stl
    rw [if_pos g3, e1]
    obtain ⟨-, k⟩ := mvn_spec h2 (by omega) 4 cur F O g5 e2
    generalize mvn fc 4 cur F O = r at k ⊢
    obtain ⟨k1, k2, k3, k4, k5, k6, k7, k8, k9⟩ := id k
    split
    · rename_i q
      show Iv hf fc r.1 oc r.2.1 (cur + 4) cnt
      exact ⟨h1, h2, h3, k1, k2, k3, Or.inr ⟨g1, g2, q, by omega, k, by omega, by omega⟩⟩
    · rename_i q
      have hz : hc r.2.1.2.2 oc = 0 := hc_zero (fun j hj => k7 j (by omega))
      exact s2_Iv h1 h2 h3 k1 k2 k3 (by omega) (by omega) (fun r => by omega)
end
section
/-! The map's calls, purely -/
def FULL : Int32 := -2000000001
def pF (F : Tb) (i : Nat) (v : Int32) : Tb := (F.1, upd F.2.1 i v, F.2.2)
def pT (O : Tb) (i : Nat) : Tb := (O.1, O.2.1, upd O.2.2 i 2)
def fullD (hf fc oc cur cnt : Nat) : Bool := decide (¬ 4 < oc - cur) && (decide (3 * fc ≤ 4 * (cnt + 1)) && decide (hf < 2 * fc))
def oputA (hf fc : Nat) (F : Tb) (oc : Nat) (O : Tb) (cur cnt : Nat) (k : Int32) : Int32 := if F.2.2 (fsl fc F k) = 1 then 0 else if inO oc O cur k then 0 else if fullD hf fc oc cur cnt = true then FULL else 0
def oput (hf fc : Nat) (F : Tb) (oc : Nat) (O : Tb) (cur cnt : Nat) (k v : Int32) : Sm :=
  if F.2.2 (fsl fc F k) = 1 then (fc, pF F (fsl fc F k) v, oc, O, cur, cnt, nI (wkc fc F oc O cur k))
  else if inO oc O cur k then (fc, F, oc, pF O (fsl oc O k) v, cur, cnt, nI (wkc fc F oc O cur k))
  else if fullD hf fc oc cur cnt = true then (fc, F, oc, O, cur, cnt, nI (wkc fc F oc O cur k))
  else stl fc (tput F (fsl fc F k) k v) oc O cur (cnt + 1) (nI (stw fc (tput F (fsl fc F k) k v) oc O cur (wkc fc F oc O cur k)))
def oremA (fc : Nat) (F : Tb) (oc : Nat) (O : Tb) (cur : Nat) (k : Int32) : Int32 := if F.2.2 (fsl fc F k) = 1 then 1 else if inO oc O cur k then 1 else 0
def orem (fc : Nat) (F : Tb) (oc : Nat) (O : Tb) (cur cnt : Nat) (k : Int32) : Sm :=
  if F.2.2 (fsl fc F k) = 1 then stl fc (cup fc F (fsl fc F k)) oc O cur (cnt - 1) (nI (stw fc (cup fc F (fsl fc F k)) oc O cur (wkc fc F oc O cur k + cuc fc F (fsl fc F k))))
  else if inO oc O cur k then stl fc F oc (pT O (fsl oc O k)) cur (cnt - 1) (nI (stw fc F oc (pT O (fsl oc O k)) cur (wkc fc F oc O cur k)))
  else (fc, F, oc, O, cur, cnt, nI (wkc fc F oc O cur k))
def ogetA (fc : Nat) (F : Tb) (oc : Nat) (O : Tb) (cur : Nat) (k : Int32) : Int32 := if F.2.2 (fsl fc F k) = 1 then F.2.1 (fsl fc F k) else if inO oc O cur k then O.2.1 (fsl oc O k) else 0
def oslotA (fc : Nat) (F : Tb) (oc : Nat) (O : Tb) (cur : Nat) (k : Int32) : Int32 := if F.2.2 (fsl fc F k) = 1 then nI (fsl fc F k) else if inO oc O cur k then nI (2000 + fsl oc O k) else -1
theorem Iv.cnt_lt {hf fc : Nat} {F : Tb} {oc : Nat} {O : Tb} {cur cnt : Nat} (h : Iv hf fc F oc O cur cnt) : hc F.2.2 fc < fc ∧ 4 * cnt < 3 * fc := by
  obtain ⟨h1, h2, h3, h4, h5, h6, h7⟩ := h
  have := h2.ge
  rcases h7 with ⟨g1, g2, g3, g4⟩ | ⟨g1, g2, g3, g4, g5, g6, g7⟩
  · omega
  · obtain ⟨-, -, -, -, -, -, -, -, k⟩ := g5
    omega
theorem Iv.zero {hf fc : Nat} {F : Tb} {oc : Nat} {O : Tb} {cur cnt : Nat} (h : Iv hf fc F oc O cur cnt) : ∃ z, z < fc ∧ F.2.2 z = 0 := zero_of h.2.2.2.1 h.cnt_lt.1
theorem Iv.lk {hf fc : Nat} {F : Tb} {oc : Nat} {O : Tb} {cur cnt : Nat} (h : Iv hf fc F oc O cur cnt) (k : Int32) : fok fc F k := fok_of h.2.1 k h.zero
theorem Iv.old {hf fc : Nat} {F : Tb} {oc : Nat} {O : Tb} {cur cnt : Nat} (h : Iv hf fc F oc O cur cnt) (hm : cur < oc) : pw oc ∧ oc ≤ hf ∧ MC fc F oc O cur cnt := by
  rcases h.2.2.2.2.2.2 with ⟨g1, g2, g3, g4⟩ | ⟨g1, g2, g3, g4, g5, g6, g7⟩
  · omega
  · exact ⟨g1, g2, g5⟩
theorem Iv.lkO {hf fc : Nat} {F : Tb} {oc : Nat} {O : Tb} {cur cnt : Nat} (h : Iv hf fc F oc O cur cnt) (hm : cur < oc) (k : Int32) : fok oc O k := by
  obtain ⟨a, -, -, -, -, -, -, z, -⟩ := h.old hm
  exact fok_of a k z
theorem not1 {cap : Nat} {T : Tb} {k : Int32} (hc : pw cap) (h : fok cap T k) (h1 : ¬ T.2.2 (fsl cap T k) = 1) : T.2.2 (fsl cap T k) = 0 := by
  rcases (fsl_spec hc h).2.1 with q | q
  · exact q
  · exact absurd q.1 h1
theorem put_SI {hf fc : Nat} {F : Tb} {oc : Nat} {O : Tb} {cur cnt : Nat} {k v : Int32} (h : Iv hf fc F oc O cur cnt) (h1 : ¬ F.2.2 (fsl fc F k) = 1) (h2 : ¬ inO oc O cur k) (h3 : ¬ fullD hf fc oc cur cnt = true) : SI hf fc (tput F (fsl fc F k) k v) oc O cur (cnt + 1) := by
  have hfk := h.lk k
  have hpf := h.2.1
  have hz := not1 hpf hfk h1
  have hsl := fsl_spec hpf hfk
  have hno := fsl_none hpf hfk h.2.2.2.2.1 hz
  have a1 := hc_upd F.2.2 fc _ 1 hsl.1
  rw [hz, if_neg (by decide), if_pos rfl] at a1
  have h01 : ∀ j, j < fc → (tput F (fsl fc F k) k v).2.2 j = 0 ∨ (tput F (fsl fc F k) k v).2.2 j = 1 := by
    intro j hj
    show upd F.2.2 _ 1 j = 0 ∨ upd F.2.2 _ 1 j = 1
    unfold upd
    split
    · exact Or.inr rfl
    · exact h.2.2.2.1 j hj
  have hP := tput_PR (v := v) hpf hfk h.2.2.2.2.1 hz
  have hU : UQ fc (tput F (fsl fc F k) k v) := tput_UQ h.2.2.2.2.2.1 hno
  have hlk := fun q => h.lkO q k
  have h8 := hpf.m8
  obtain ⟨g1, g2, g3, g4, g5, g6, g7⟩ := h
  refine ⟨g1, g2, g3, h01, hP, hU, ?_⟩
  rcases g7 with ⟨k1, k2, k3, k4⟩ | ⟨k1, k2, k3, k4, k5, k6, k7⟩
  · refine Or.inl ⟨k1, k2, ?_, by omega, fun q => ?_⟩
    · show cnt + 1 = hc (upd F.2.2 _ 1) fc
      omega
    · rcases Nat.lt_or_ge hf (2 * fc) with r | r
      · exact absurd (by simp only [fullD, Bool.and_eq_true, decide_eq_true_eq]; exact ⟨by omega, q, r⟩) h3
      · exact r
  · refine Or.inr ⟨k1, k2, k3, k4, ?_, by omega, by omega⟩
    have hfo := hlk k3
    have hzo := not1 k1 hfo (fun q => h2 ⟨k3, q⟩)
    obtain ⟨m1, m2, m3, m4, m5, m6, m7, m8, m9⟩ := k5
    have hnoo := fsl_none k1 hfo m4 hzo
    refine ⟨h01, hP, hU, m4, m5, m6, m7, ?_, ?_⟩
    · intro i j hi hj a b
      by_cases hie : i = fsl fc F k
      · have : (tput F (fsl fc F k) k v).1 i = k := by rw [hie]; exact upd_at _ _ _
        rw [this]
        exact fun q => hnoo j hj b q.symm
      · have e1 : (tput F (fsl fc F k) k v).1 i = F.1 i := upd_ne _ _ hie
        have e2 : (tput F (fsl fc F k) k v).2.2 i = F.2.2 i := upd_ne _ _ hie
        rw [e2] at a
        rw [e1]
        exact m8 i j hi hj a b
    · show cnt + 1 = hc (upd F.2.2 _ 1) fc + hc O.2.2 oc
      omega
theorem remF_SI {hf fc : Nat} {F : Tb} {oc : Nat} {O : Tb} {cur cnt s : Nat} (h : Iv hf fc F oc O cur cnt) (hs : s < fc) (h1 : F.2.2 s = 1) : SI hf fc (cup fc F s) oc O cur (cnt - 1) := by
  have hz := h.zero
  have hl := h.cnt_lt
  obtain ⟨g1, g2, g3, g4, g5, g6, g7⟩ := h
  obtain ⟨c1, c2, c3, c4, c5⟩ := cup_spec g2 g4 hz hs h1 g5 g6
  have a1 := hc_upd F.2.2 fc _ 0 c1
  rw [c2, if_pos rfl, if_neg (by decide)] at a1
  have h01 : ∀ j, j < fc → (cup fc F s).2.2 j = 0 ∨ (cup fc F s).2.2 j = 1 := by
    intro j hj
    show upd F.2.2 _ 0 j = 0 ∨ upd F.2.2 _ 0 j = 1
    unfold upd
    split
    · exact Or.inl rfl
    · exact g4 j hj
  have e : hc (cup fc F s).2.2 fc + 1 = hc F.2.2 fc := a1
  refine ⟨g1, g2, g3, h01, c3, c4, ?_⟩
  rcases g7 with ⟨k1, k2, k3, k4⟩ | ⟨k1, k2, k3, k4, k5, k6, k7⟩
  · exact Or.inl ⟨k1, k2, by omega, by omega, fun q => by omega⟩
  · obtain ⟨m1, m2, m3, m4, m5, m6, m7, m8, m9⟩ := k5
    refine Or.inr ⟨k1, k2, k3, k4, ⟨h01, c3, c4, m4, m5, m6, m7, ?_, by omega⟩, by omega, by omega⟩
    intro i j hi hj a b
    obtain ⟨j0, q1, q2, q3⟩ := c5 i hi a
    rw [← q3]
    exact m8 j0 j q1 hj q2 b
theorem remO_SI {hf fc : Nat} {F : Tb} {oc : Nat} {O : Tb} {cur cnt s : Nat} (h : Iv hf fc F oc O cur cnt) (hm : cur < oc) (hs : s < oc) (h1 : O.2.2 s = 1) : SI hf fc F oc (pT O s) cur (cnt - 1) := by
  have hl := h.cnt_lt
  obtain ⟨g1, g2, g3, g4, g5, g6, g7⟩ := h
  refine ⟨g1, g2, g3, g4, g5, g6, ?_⟩
  rcases g7 with ⟨k1, k2, k3, k4⟩ | ⟨k1, k2, k3, k4, k5, k6, k7⟩
  · omega
  · obtain ⟨m1, m2, m3, m4, m5, m6, m7, m8, m9⟩ := k5
    have a1 := hc_upd O.2.2 oc s 2 hs
    rw [h1, if_pos rfl, if_neg (by decide)] at a1
    have e : hc (pT O s).2.2 oc + 1 = hc O.2.2 oc := a1
    have ho : ∀ j, (pT O s).2.2 j = 1 → ¬ j = s ∧ O.2.2 j = 1 := by
      intro j hj
      have hj : upd O.2.2 s 2 j = 1 := hj
      have hjc : ¬ j = s := fun e => by rw [e, upd_at] at hj; exact absurd hj (by decide)
      exact ⟨hjc, by rw [← hj]; exact (upd_ne _ _ hjc).symm⟩
    refine Or.inr ⟨k1, k2, k3, k4, ⟨m1, m2, m3, ?_, ?_, ?_, ?_, ?_, by omega⟩, by omega, by omega⟩
    · intro j hj hj1 d hd
      have := m4 j hj (ho j hj1).2 d hd
      show ¬ upd O.2.2 s 2 _ = 0
      unfold upd
      split
      · decide
      · exact this
    · intro i j hi hj a b q
      exact m5 i j hi hj (ho i a).2 (ho j b).2 q
    · obtain ⟨z, hz, hz0⟩ := m6
      refine ⟨z, hz, ?_⟩
      show upd O.2.2 s 2 z = 0
      rw [upd_ne _ _ (fun e => by rw [e, h1] at hz0; exact absurd hz0 (by decide))]
      exact hz0
    · intro j hj hj1
      exact m7 j hj (ho j hj1).2
    · intro i j hi hj a b
      exact m8 i j hi hj a (ho j b).2
theorem oput_Iv {hf fc : Nat} {F : Tb} {oc : Nat} {O : Tb} {cur cnt : Nat} {k v : Int32} (h : Iv hf fc F oc O cur cnt) : IvS hf (oput hf fc F oc O cur cnt k v) := by
  unfold oput
  split
  · exact h
  · rename_i h1
    split
    · exact h
    · rename_i h2
      split
      · exact h
      · rename_i h3
        exact stl_Iv (put_SI h h1 h2 h3)
theorem orem_Iv {hf fc : Nat} {F : Tb} {oc : Nat} {O : Tb} {cur cnt : Nat} {k : Int32} (h : Iv hf fc F oc O cur cnt) : IvS hf (orem fc F oc O cur cnt k) := by
  unfold orem
  split
  · rename_i h1
    exact stl_Iv (remF_SI h (fsl_spec h.2.1 (h.lk k)).1 h1)
  · split
    · rename_i h2
      exact stl_Iv (remO_SI h h2.1 (fsl_spec (h.old h2.1).1 (h.lkO h2.1 k)).1 h2.2)
    · exact h
/-- the map at its start -/
theorem Iv_start {hf : Nat} (h : pw hf) (F O : Tb) (hz : ∀ j, j < 8 → F.2.2 j = 0) : Iv hf 8 F 0 O 0 0 := by
  have h8 : pw 8 := ⟨3, by omega, by omega, rfl⟩
  have h1 : ∀ j, j < 8 → ¬ F.2.2 j = 1 := fun j hj => by rw [hz j hj]; decide
  refine ⟨h, h8, h.ge, fun j hj => Or.inl (hz j hj), fun j hj a => absurd a (h1 j hj), fun i j hi _ a => absurd a (h1 i hi), Or.inl ⟨rfl, rfl, ?_, by omega⟩⟩
  rw [hc_zero h1]
end
section
theorem gv_M_32 : GoodIn wgood (wsV "StepMap" 32 y_T_clear.cls y_T_clear (Cond.code y_T_clear b_T_clear 3 none :: wgood)) := gV mw_1_44 mw_1_45 mw_1_46 mw_1_3 mw_1_47
theorem gv_M_47 : GoodIn wgood (wsV "StepMap" 47 y_M_isMigrating.cls y_M_isMigrating (Cond.code y_M_isMigrating b_M_isMigrating 1 (some .boolean) :: wgood)) := gV mw_1_99 mw_1_101 mws_3 mw_1_1 mw_1_102
theorem gv_M_51 : GoodIn wgood (wsV "StepMap" 51 y_T_find.cls y_T_find (Cond.code y_T_find b_T_find 3 (some .int) :: wgood)) := gV mw_1_75 mw_1_76 mw_1_77 mw_1_3 mw_1_78
theorem gv_M_55 : GoodIn wgood (wsV "StepMap" 55 y_T_holds.cls y_T_holds (Cond.code y_T_holds b_T_holds 2 (some .boolean) :: wgood)) := gV mw_1_91 mw_1_92 mw_1_93 mw_1_3 mw_1_94
theorem gv_M_66 : GoodIn wgood (wsV "StepMap" 66 y_T_put.cls y_T_put (Cond.code y_T_put b_T_put 4 none :: wgood)) := gV mw_1_112 mw_1_113 mw_1_114 mw_1_3 mw_1_115
theorem gv_M_73 : GoodIn wgood (wsV "StepMap" 73 y_M_moveOn.cls y_M_moveOn (Cond.code y_M_moveOn b_M_moveOn 3 none :: wgood)) := gV mw_1_120 mw_1_122 mws_7 mw_1_1 mw_1_123
theorem gv_M_79 : GoodIn wgood (wsV "StepMap" 79 y_M_isCrowded.cls y_M_isCrowded (Cond.code y_M_isCrowded b_M_isCrowded 2 (some .boolean) :: wgood)) := gV mw_1_107 mw_1_109 mws_5 mw_1_1 mw_1_110
theorem gv_M_82 : GoodIn wgood (wsV "StepMap" 82 y_M_change.cls y_M_change (Cond.code y_M_change b_M_change 3 none :: wgood)) := gV mw_1_124 mw_1_126 mws_8 mw_1_1 mw_1_127
theorem gv_M_85 : GoodIn wgood (wsV "StepMap" 85 y_M_begin.cls y_M_begin (Cond.code y_M_begin b_M_begin 1 none :: wgood)) := gV mw_1_71 mw_1_73 mws_0 mw_1_1 mw_1_74
theorem gv_M_88 : GoodIn wgood (wsV "StepMap" 88 y_M_findOld.cls y_M_findOld (Cond.code y_M_findOld b_M_findOld 3 (some .int) :: wgood)) := gV mw_1_95 mw_1_97 mws_2 mw_1_1 mw_1_98
theorem gv_M_91 : GoodIn wgood (wsV "StepMap" 91 y_M_isFull.cls y_M_isFull (Cond.code y_M_isFull b_M_isFull 2 (some .boolean) :: wgood)) := gV mw_1_103 mw_1_105 mws_4 mw_1_1 mw_1_106
theorem gv_M_95 : GoodIn wgood (wsV "StepMap" 95 y_M_settle.cls y_M_settle (Cond.code y_M_settle b_M_settle 1 none :: wgood)) := gV mw_1_116 mw_1_118 mws_6 mw_1_1 mw_1_119
theorem gv_M_98 : GoodIn wgood (wsV "StepMap" 98 y_M_end.cls y_M_end (Cond.code y_M_end b_M_end 1 none :: wgood)) := gV mw_1_128 mw_1_130 mws_9 mw_1_1 mw_1_131
theorem gv_M_101 : GoodIn wgood (wsV "StepMap" 101 y_T_closeUp.cls y_T_closeUp (Cond.code y_T_closeUp b_T_closeUp 5 none :: wgood)) := gV mw_1_144 mw_1_145 mw_1_146 mw_1_3 mw_1_147
theorem gv_N_30 : GoodIn wgood (wsV "StepMapModel" 30 y_N_home.cls y_N_home (Cond.code y_N_home b_N_home 5 (some .int) :: wgood)) := gV mw_1_227 mw_1_229 mws_11 mw_1_4 mw_1_230
theorem gv_N_37 : GoodIn wgood (wsV "StepMapModel" 37 y_N_at.cls y_N_at (Cond.code y_N_at b_N_at 3 (some .int) :: wgood)) := gV mw_1_232 mw_1_234 mws_12 mw_1_4 mw_1_235
theorem gv_N_40 : GoodIn wgood (wsV "StepMapModel" 40 y_N_behind.cls y_N_behind (Cond.code y_N_behind b_N_behind 3 (some .int) :: wgood)) := gV mw_1_236 mw_1_238 mws_13 mw_1_4 mw_1_239
theorem gv_N_49 : GoodIn wgood (wsV "StepMapModel" 49 y_N_look.cls y_N_look (Cond.code y_N_look b_N_look 4 (some .int) :: wgood)) := gV mw_1_223 mw_1_225 mws_10 mw_1_4 mw_1_226
theorem gv_N_52 : GoodIn wgood (wsV "StepMapModel" 52 y_N_lay.cls y_N_lay (Cond.code y_N_lay b_N_lay 5 none :: wgood)) := gV mw_2_5 mw_2_7 mws_15 mw_1_4 mw_2_8
theorem gv_N_60 : GoodIn wgood (wsV "StepMapModel" 60 y_N_moveSome.cls y_N_moveSome (Cond.code y_N_moveSome b_N_moveSome 5 none :: wgood)) := gV mw_2_13 mw_2_15 mws_17 mw_1_4 mw_2_16
theorem gv_N_66 : GoodIn wgood (wsV "StepMapModel" 66 y_N_become.cls y_N_become (Cond.code y_N_become b_N_become 3 none :: wgood)) := gV mw_2_17 mw_2_19 mws_18 mw_1_4 mw_2_20
theorem gv_N_70 : GoodIn wgood (wsV "StepMapModel" 70 y_N_isFull.cls y_N_isFull (Cond.code y_N_isFull b_N_isFull 2 (some .boolean) :: wgood)) := gV mw_2_0 mw_2_2 mws_14 mw_1_4 mw_2_3
theorem gv_N_75 : GoodIn wgood (wsV "StepMapModel" 75 y_N_settle.cls y_N_settle (Cond.code y_N_settle b_N_settle 2 none :: wgood)) := gV mw_2_9 mw_2_11 mws_16 mw_1_4 mw_2_12
theorem gv_N_81 : GoodIn wgood (wsV "StepMapModel" 81 y_N_find.cls y_N_find (Cond.code y_N_find b_N_find 4 (some .int) :: wgood)) := gV mw_2_25 mw_2_27 mws_19 mw_1_4 mw_2_28
theorem gv_N_85 : GoodIn wgood (wsV "StepMapModel" 85 y_N_steps.cls y_N_steps (Cond.code y_N_steps b_N_steps 5 (some .int) :: wgood)) := gV mw_2_41 mw_2_43 mws_21 mw_1_4 mw_2_44
theorem gv_N_88 : GoodIn wgood (wsV "StepMapModel" 88 y_N_free.cls y_N_free (Cond.code y_N_free b_N_free 5 none :: wgood)) := gV mw_2_37 mw_2_39 mws_20 mw_1_4 mw_2_40
theorem gv_T_29 : GoodIn wgood (wsV "StepMap$Table" 29 y_T_home.cls y_T_home (Cond.code y_T_home b_T_home 2 (some .int) :: wgood)) := gV mw_1_79 mw_1_80 mw_1_81 mw_1_3 mw_1_82
theorem gv_T_35 : GoodIn wgood (wsV "StepMap$Table" 35 y_T_next.cls y_T_next (Cond.code y_T_next b_T_next 2 (some .int) :: wgood)) := gV mw_1_87 mw_1_89 mws_1 mw_1_3 mw_1_90
theorem gv_T_38 : GoodIn wgood (wsV "StepMap$Table" 38 y_T_put.cls y_T_put (Cond.code y_T_put b_T_put 4 none :: wgood)) := gV mw_1_148 mw_1_113 mw_1_114 mw_1_3 mw_1_115
theorem gv_L_21 : GoodIn wgood (wsV "StepMapLaw" 21 y_M_put.cls y_M_put (Cond.code y_M_put b_M_put 6 (some .int) :: wgood)) := gV mw_1_67 mw_1_68 mw_1_69 mw_1_1 mw_1_70
theorem gv_L_25 : GoodIn wgood (wsV "StepMapLaw" 25 y_N_put.cls y_N_put (Cond.code y_N_put b_N_put 6 (some .int) :: wgood)) := gV mw_1_219 mw_1_220 mw_1_221 mw_1_4 mw_1_222
theorem gv_L_26 : GoodIn wgood (wsV "StepMapLaw" 26 y_M_get.cls y_M_get (Cond.code y_M_get b_M_get 4 (some .int) :: wgood)) := gV mw_1_132 mw_1_133 mw_1_134 mw_1_1 mw_1_135
theorem gv_L_30 : GoodIn wgood (wsV "StepMapLaw" 30 y_N_get.cls y_N_get (Cond.code y_N_get b_N_get 3 (some .int) :: wgood)) := gV mw_2_21 mw_2_22 mw_2_23 mw_1_4 mw_2_24
theorem gv_L_31 : GoodIn wgood (wsV "StepMapLaw" 31 y_M_has.cls y_M_has (Cond.code y_M_has b_M_has 3 (some .boolean) :: wgood)) := gV mw_1_136 mw_1_137 mw_1_138 mw_1_1 mw_1_139
theorem gv_L_35 : GoodIn wgood (wsV "StepMapLaw" 35 y_N_has.cls y_N_has (Cond.code y_N_has b_N_has 3 (some .boolean) :: wgood)) := gV mw_2_29 mw_2_30 mw_2_31 mw_1_4 mw_2_32
theorem gv_L_36 : GoodIn wgood (wsV "StepMapLaw" 36 y_M_remove.cls y_M_remove (Cond.code y_M_remove b_M_remove 5 (some .boolean) :: wgood)) := gV mw_1_140 mw_1_141 mw_1_142 mw_1_1 mw_1_143
theorem gv_L_39 : GoodIn wgood (wsV "StepMapLaw" 39 y_N_remove.cls y_N_remove (Cond.code y_N_remove b_N_remove 4 (some .boolean) :: wgood)) := gV mw_2_33 mw_2_34 mw_2_35 mw_1_4 mw_2_36
theorem gv_L_40 : GoodIn wgood (wsV "StepMapLaw" 40 y_M_size.cls y_M_size (Cond.code y_M_size b_M_size 1 (some .int) :: wgood)) := gV mw_1_149 mw_1_150 mw_1_151 mw_1_1 mw_1_152
theorem gv_L_44 : GoodIn wgood (wsV "StepMapLaw" 44 y_N_size.cls y_N_size (Cond.code y_N_size b_N_size 1 (some .int) :: wgood)) := gV mw_2_45 mw_2_46 mw_2_47 mw_1_4 mw_2_48
theorem gv_L_45 : GoodIn wgood (wsV "StepMapLaw" 45 y_M_capacity.cls y_M_capacity (Cond.code y_M_capacity b_M_capacity 1 (some .int) :: wgood)) := gV mw_1_153 mw_1_154 mw_1_155 mw_1_1 mw_1_156
theorem gv_L_48 : GoodIn wgood (wsV "StepMapLaw" 48 y_N_capacity.cls y_N_capacity (Cond.code y_N_capacity b_N_capacity 1 (some .int) :: wgood)) := gV mw_2_49 mw_2_50 mw_2_51 mw_1_4 mw_2_52
theorem gv_L_49 : GoodIn wgood (wsV "StepMapLaw" 49 y_M_migrating.cls y_M_migrating (Cond.code y_M_migrating b_M_migrating 1 (some .boolean) :: wgood)) := gV mw_1_157 mw_1_158 mw_1_159 mw_1_1 mw_1_160
theorem gv_L_53 : GoodIn wgood (wsV "StepMapLaw" 53 y_N_migrating.cls y_N_migrating (Cond.code y_N_migrating b_N_migrating 1 (some .boolean) :: wgood)) := gV mw_2_53 mw_2_54 mw_2_55 mw_1_4 mw_2_56
theorem gv_L_54 : GoodIn wgood (wsV "StepMapLaw" 54 y_M_lastWork.cls y_M_lastWork (Cond.code y_M_lastWork b_M_lastWork 1 (some .int) :: wgood)) := gV mw_1_161 mw_1_162 mw_1_163 mw_1_1 mw_1_164
theorem gv_L_57 : GoodIn wgood (wsV "StepMapLaw" 57 y_N_lastWork.cls y_N_lastWork (Cond.code y_N_lastWork b_N_lastWork 1 (some .int) :: wgood)) := gV mw_2_57 mw_2_58 mw_2_59 mw_1_4 mw_2_60
theorem gv_L_58 : GoodIn wgood (wsV "StepMapLaw" 58 y_M_slot.cls y_M_slot (Cond.code y_M_slot b_M_slot 4 (some .int) :: wgood)) := gV mw_1_165 mw_1_166 mw_1_167 mw_1_1 mw_1_168
theorem gv_L_61 : GoodIn wgood (wsV "StepMapLaw" 61 y_N_slot.cls y_N_slot (Cond.code y_N_slot b_N_slot 3 (some .int) :: wgood)) := gV mw_2_61 mw_2_62 mw_2_63 mw_1_4 mw_2_64
theorem gv_L_62 : GoodIn wgood (wsV "StepMapLaw" 62 y_M_cursor.cls y_M_cursor (Cond.code y_M_cursor b_M_cursor 1 (some .int) :: wgood)) := gV mw_1_169 mw_1_170 mw_1_171 mw_1_1 mw_1_172
theorem gv_L_65 : GoodIn wgood (wsV "StepMapLaw" 65 y_N_cursor.cls y_N_cursor (Cond.code y_N_cursor b_N_cursor 1 (some .int) :: wgood)) := gV mw_2_65 mw_2_66 mw_2_67 mw_1_4 mw_2_68
/-- a table's cells: itself, keys, values, states -/
abbrev wT (a : Ad) (cA : ClassId) (n : Nat) (cap vis : Int32) (T : Tb) : va_W := [(a.1, .inr (1, [.ref a.2.1, .ref a.2.2.1, .ref a.2.2.2, .int cap, .int vis])), (a.2.1, .inl (cA, n, .inl T.1)), (a.2.2.1, .inl (cA, n, .inl T.2.1)), (a.2.2.2, .inl (cA, n, .inl T.2.2))]
/-- the map's cells: itself (its fields 'fresh' and 'old' are x, y), the tables at a, at b -/
abbrev wM (h : Nat) (hf : Nat) (x y : Nat) (a b : Ad) (cA : ClassId) (cur cnt wk fc fv : Int32) (F : Tb) (oc ov : Int32) (O : Tb) : va_W := [(h, .inr (0, [.int (nI hf), .ref x, .ref y, .int cur, .int cnt, .int wk])), (a.1, .inr (1, [.ref a.2.1, .ref a.2.2.1, .ref a.2.2.2, .int fc, .int fv])), (a.2.1, .inl (cA, hf, .inl F.1)), (a.2.2.1, .inl (cA, hf, .inl F.2.1)), (a.2.2.2, .inl (cA, hf, .inl F.2.2)), (b.1, .inr (1, [.ref b.2.1, .ref b.2.2.1, .ref b.2.2.2, .int oc, .int ov])), (b.2.1, .inl (cA, hf, .inl O.1)), (b.2.2.1, .inl (cA, hf, .inl O.2.1)), (b.2.2.2, .inl (cA, hf, .inl O.2.2))]
/-- the reference's cells: itself, states, keys, values, sizes -/
abbrev wN (h : Nat) (q : Ad) (cA : ClassId) (th hf c mv cu cnt vi wk : Int32) (SS KK VV ZZ : Nat → Int32) : va_W := [(h, .inr (2, [.int th, .int hf, .ref q.1, .ref q.2.1, .ref q.2.2.1, .ref q.2.2.2, .int c, .int mv, .int cu, .int cnt, .int vi, .int wk])), (q.1, .inl (cA, 2048, .inl SS)), (q.2.1, .inl (cA, 2048, .inl KK)), (q.2.2.1, .inl (cA, 2048, .inl VV)), (q.2.2.2, .inl (cA, 2, .inl ZZ))]
end
section
set_option maxHeartbeats 4000000 in
set_option maxRecDepth 100000 in
theorem c_M_mix (l : Launch) (D : va_G) (cA : ClassId) (k : Int32) : Mi l D [(cA, .int)] y_M_mix b_M_mix 2 (some .int) 0 0 [.int k] [] (fun r (_ : Unit) => r = mixI k) (fun _ => []) := by
  refine mi_start (own := "StepMap") (by decide +kernel) rfl (Nat.le_of_ble_eq_true rfl) ?_
  intro p e s m args below meth c ls A Q hx hb hml hown ht hk hP hD hA hl hret
  have hS : va_S A s.heap s.heap [] := va_S.rf
  have hl : lv_has ls 2 [(0, .int k)] := hl
  refine lv_iload_n hx hb d_M_mix_0 rfl (lv_at hl 0 rfl) ?_
  refine lv_ldc (v := (-1640531535)) hx hb hown (ht _ mw_1_86) d_M_mix_1 ?_
  refine lv_imul hx hb d_M_mix_3 ?_
  refine lv_istore_n (lv' := [(1, .int (k * (-1640531535))), (0, .int k)]) hx hb d_M_mix_4 rfl hl (by decide) rfl (fun ls hl => ?_)
  refine lv_iload_n hx hb d_M_mix_5 rfl (lv_at hl 0 rfl) ?_
  refine lv_iload_n hx hb d_M_mix_6 rfl (lv_at hl 0 rfl) ?_
  refine lv_bipush (v := 15) hx hb d_M_mix_7 (by decide) ?_
  refine lv_iushr (v := ((k * (-1640531535)).toUInt32 >>> ((15 : Int32).toUInt32 &&& Int32.toUInt32 31)).toInt32) hx hb d_M_mix_9 rfl ?_
  refine lv_ixor hx hb d_M_mix_10 ?_
  exact hret _ _ _ _ _ _ () d_M_mix_11 hP hD hS (rfl) rfl
set_option maxHeartbeats 4000000 in
set_option maxRecDepth 100000 in
theorem c_T_home (l : Launch) (D : va_G) (cA : ClassId) (a : Ad) (n cap : Nat) (vis : Int32) (T : Tb) (k : Int32) (hc : pw cap) : Mi l D [(cA, .int)] y_T_home b_T_home 2 (some .int) 1 21 [.ref a.1, .int k] (wT a cA n (nI cap) vis T) (fun r (_ : Unit) => r = nI (hm cap k)) (fun _ => wT a cA n (nI cap) vis T) := by
  refine mi_start (own := "StepMap$Table") (by decide +kernel) rfl (Nat.le_of_ble_eq_true rfl) ?_
  intro p e s m args below meth c ls A Q hx hb hml hown ht hk hP hD hA hl hret
  have hS : va_S A s.heap s.heap [] := va_S.rf
  have hl : lv_has ls 2 [(0, .ref a.1), (1, .int k)] := hl
  refine lv_iload_n hx hb d_T_home_0 rfl (lv_at hl 1 rfl) ?_
  refine xSN_i (D := D) (k := 1) (y := y_M_mix) (rest := []) (host := "StepMap") ⟨hx, hb, hml, hown, ht⟩ (c_M_mix l D cA k) mw_1_85 mw_1_1 hk.2.2.2.2.2.2 mw_1_84 (by decide +kernel) rfl ⟨Nat.le_of_ble_eq_true rfl, Nat.le_of_ble_eq_true rfl⟩ hk hP hD hS hA hl.1 rfl (Nat.le_of_ble_eq_true rfl) d_T_home_1 ⟨Nat.zero_le _, Nat.zero_le _⟩ (fun H locs hP hS => ?_)
  refine lv_aload_n hx hb d_T_home_4 rfl (lv_at hl 0 rfl) ?_
  refine va_get (D := D) (cl := classes) (ci := 1) (v := .int (nI cap)) (C := "StepMap$Table") (T := F_T) (N := 5) hx hb ht i_T hown hk.1 hP 0 rfl rfl 3 (by decide) (ht _ mw_1_28) (fun _ h9 => h9) rfl d_T_home_5 ?_
  refine lv_iconst (v := 1) hx hb d_T_home_8 (by decide) ?_
  refine lv_isub hx hb d_T_home_9 ?_
  refine lv_iand hx hb d_T_home_10 ?_
  refine x_top (z := (nI (hm cap k))) (and_home hc k) ?_
  exact hret _ _ _ _ _ _ () d_T_home_11 hP hD hS (rfl) rfl
set_option maxHeartbeats 4000000 in
set_option maxRecDepth 100000 in
theorem c_T_next (l : Launch) (D : va_G) (cA : ClassId) (a : Ad) (n cap : Nat) (vis : Int32) (T : Tb) (i : Nat) (hc : pw cap) (hi : i < cap) : Mi l D [(cA, .int)] y_T_next b_T_next 2 (some .int) 0 0 [.ref a.1, .int (nI i)] (wT a cA n (nI cap) vis T) (fun r (_ : Unit) => r = nI (nx cap i)) (fun _ => wT a cA n (nI cap) vis T) := by
  refine mi_start (own := "StepMap$Table") (by decide +kernel) rfl (Nat.le_of_ble_eq_true rfl) ?_
  intro p e s m args below meth c ls A Q hx hb hml hown ht hk hP hD hA hl hret
  have hS : va_S A s.heap s.heap [] := va_S.rf
  have hl : lv_has ls 2 [(0, .ref a.1), (1, .int (nI i))] := hl
  refine lv_iload_n hx hb d_T_next_0 rfl (lv_at hl 1 rfl) ?_
  refine lv_iconst (v := 1) hx hb d_T_next_1 (by decide) ?_
  refine lv_iadd hx hb d_T_next_2 ?_
  refine lv_aload_n hx hb d_T_next_3 rfl (lv_at hl 0 rfl) ?_
  refine va_get (D := D) (cl := classes) (ci := 1) (v := .int (nI cap)) (C := "StepMap$Table") (T := F_T) (N := 5) hx hb ht i_T hown hk.1 hP 0 rfl rfl 3 (by decide) (ht _ mw_1_28) (fun _ h9 => h9) rfl d_T_next_4 ?_
  refine lv_iconst (v := 1) hx hb d_T_next_7 (by decide) ?_
  refine lv_isub hx hb d_T_next_8 ?_
  refine lv_iand hx hb d_T_next_9 ?_
  refine x_top (z := (nI (nx cap i))) (and_next hc hi) ?_
  exact hret _ _ _ _ _ _ () d_T_next_10 hP hD hS (rfl) rfl
set_option maxHeartbeats 4000000 in
set_option maxRecDepth 100000 in
theorem c_T_holds (l : Launch) (D : va_G) (cA : ClassId) (a : Ad) (n cap : Nat) (vis : Int32) (T : Tb) (i : Nat) (hn : n ≤ 1024) (hi : i < n) : Mi l D [(cA, .int)] y_T_holds b_T_holds 2 (some .boolean) 0 0 [.ref a.1, .int (nI i)] (wT a cA n (nI cap) vis T) (fun r (_ : Unit) => r = if T.2.2 i = 1 then 1 else 0) (fun _ => wT a cA n (nI cap) vis T) := by
  refine mz_start (own := "StepMap$Table") (by decide +kernel) rfl (Nat.le_of_ble_eq_true rfl) ?_
  intro p e s m args below meth c ls A Q hx hb hml hown ht hk hP hD hA hl hret
  have hS : va_S A s.heap s.heap [] := va_S.rf
  have hl : lv_has ls 2 [(0, .ref a.1), (1, .int (nI i))] := hl
  refine lv_aload_n hx hb d_T_holds_0 rfl (lv_at hl 0 rfl) ?_
  refine va_get (D := D) (cl := classes) (ci := 1) (v := .ref a.2.2.2) (C := "StepMap$Table") (T := F_T) (N := 5) hx hb ht i_T hown hk.1 hP 0 rfl rfl 2 (by decide) (ht _ mw_1_26) (fun _ h9 => h9) rfl d_T_holds_1 ?_
  refine lv_iload_n hx hb d_T_holds_4 rfl (lv_at hl 1 rfl) ?_
  refine x_ald hx hb hk hP 3 0 rfl rfl (i := i) (by omega) (by omega) d_T_holds_5 ?_
  refine lv_iconst (v := 1) hx hb d_T_holds_6 (by decide) ?_
  refine lv_icmp_ne (tgt := 14) hx hb d_T_holds_7 (by decide) (fun c1 => ?_) (fun c1 => ?_)
  · skip
    refine lv_iconst (v := 0) hx hb d_T_holds_14 (by decide) ?_
    exact hret _ _ _ _ _ _ () d_T_holds_15 (Or.inl rfl) hP hD hS ((if_neg c1).symm) rfl
  · skip
    refine lv_iconst (v := 1) hx hb d_T_holds_10 (by decide) ?_
    refine lv_goto (tgt := 15) hx hb d_T_holds_11 (by decide) ?_
    exact hret _ _ _ _ _ _ () d_T_holds_15 (Or.inr rfl) hP hD hS ((if_pos c1).symm) rfl
set_option maxHeartbeats 4000000 in
set_option maxRecDepth 100000 in
theorem c_T_put (l : Launch) (D : va_G) (cA : ClassId) (a : Ad) (n cap : Nat) (vis : Int32) (T : Tb) (i : Nat) (k v : Int32) (hn : n ≤ 1024) (hi : i < n) : Mv l D [(cA, .int)] y_T_put b_T_put 4 0 0 0 0 [.ref a.1, .int (nI i), .int k, .int v] (wT a cA n (nI cap) vis T) (fun (_ : Unit) => True) (fun _ => wT a cA n (nI cap) vis (tput T i k v)) := by
  refine mv_start (own := "StepMap$Table") (by decide +kernel) rfl (Nat.le_of_ble_eq_true rfl) ?_
  intro p e s m args below meth c ls A Q hx hb hml hin hown ht hk hP hD hA hl hret
  have hS : va_S A s.heap s.heap [] := va_S.rf
  have hl : lv_has ls 4 [(0, .ref a.1), (1, .int (nI i)), (2, .int k), (3, .int v)] := hl
  refine lv_aload_n hx hb d_T_put_0 rfl (lv_at hl 0 rfl) ?_
  refine va_get (D := D) (cl := classes) (ci := 1) (v := .ref a.2.2.2) (C := "StepMap$Table") (T := F_T) (N := 5) hx hb ht i_T hown hk.1 hP 0 rfl rfl 2 (by decide) (ht _ mw_1_26) (fun _ h9 => h9) rfl d_T_put_1 ?_
  refine lv_iload_n hx hb d_T_put_4 rfl (lv_at hl 1 rfl) ?_
  refine lv_iconst (v := 1) hx hb d_T_put_5 (by decide) ?_
  refine x_ast hx hb hk hP hD hS 3 0 rfl rfl (i := i) (x := 1) (by omega) (by omega) d_T_put_6 (fun H locs hP hD hS => ?_)
  have hP : va_P D classes (wT a cA n (nI cap) vis (T.1, T.2.1, (upd T.2.2 i 1))) H := hP
  have hD : va_D A (wT a cA n (nI cap) vis (T.1, T.2.1, (upd T.2.2 i 1))) := hD
  refine lv_aload_n hx hb d_T_put_7 rfl (lv_at hl 0 rfl) ?_
  refine va_get (D := D) (cl := classes) (ci := 1) (v := .ref a.2.1) (C := "StepMap$Table") (T := F_T) (N := 5) hx hb ht i_T hown hk.1 hP 0 rfl rfl 0 (by decide) (ht _ mw_1_22) (fun _ h9 => h9) rfl d_T_put_8 ?_
  refine lv_iload_n hx hb d_T_put_11 rfl (lv_at hl 1 rfl) ?_
  refine lv_iload_n hx hb d_T_put_12 rfl (lv_at hl 2 rfl) ?_
  refine x_ast hx hb hk hP hD hS 1 0 rfl rfl (i := i) (x := k) (by omega) (by omega) d_T_put_13 (fun H locs hP hD hS => ?_)
  have hP : va_P D classes (wT a cA n (nI cap) vis ((upd T.1 i k), T.2.1, (upd T.2.2 i 1))) H := hP
  have hD : va_D A (wT a cA n (nI cap) vis ((upd T.1 i k), T.2.1, (upd T.2.2 i 1))) := hD
  refine lv_aload_n hx hb d_T_put_14 rfl (lv_at hl 0 rfl) ?_
  refine va_get (D := D) (cl := classes) (ci := 1) (v := .ref a.2.2.1) (C := "StepMap$Table") (T := F_T) (N := 5) hx hb ht i_T hown hk.1 hP 0 rfl rfl 1 (by decide) (ht _ mw_1_24) (fun _ h9 => h9) rfl d_T_put_15 ?_
  refine lv_iload_n hx hb d_T_put_18 rfl (lv_at hl 1 rfl) ?_
  refine lv_iload_n hx hb d_T_put_19 rfl (lv_at hl 3 rfl) ?_
  refine x_ast hx hb hk hP hD hS 2 0 rfl rfl (i := i) (x := v) (by omega) (by omega) d_T_put_20 (fun H locs hP hD hS => ?_)
  have hP : va_P D classes (wT a cA n (nI cap) vis ((upd T.1 i k), (upd T.2.1 i v), (upd T.2.2 i 1))) H := hP
  have hD : va_D A (wT a cA n (nI cap) vis ((upd T.1 i k), (upd T.2.1 i v), (upd T.2.2 i 1))) := hD
  exact hret _ _ _ _ _ () d_T_put_21 hP hD hS (trivial) rfl
set_option maxHeartbeats 4000000 in
set_option maxRecDepth 100000 in
theorem c_T_clear (l : Launch) (D : va_G) (cA : ClassId) (a : Ad) (n cap : Nat) (vis : Int32) (T : Tb) (cap0 : Int32) (z : Nat) (hn : n ≤ 1024) (hz : z ≤ n) : Mv l D [(cA, .int)] y_T_clear b_T_clear 3 0 0 0 0 [.ref a.1, .int (nI z)] (wT a cA n cap0 vis T) (fun (_ : Unit) => True) (fun _ => wT a cA n (nI z) vis (T.1, T.2.1, clr T.2.2 z)) := by
  refine mv_start (own := "StepMap$Table") (by decide +kernel) rfl (Nat.le_of_ble_eq_true rfl) ?_
  intro p e s m args below meth c ls A Q hx hb hml hin hown ht hk hP hD hA hl hret
  have hS : va_S A s.heap s.heap [] := va_S.rf
  have hl : lv_has ls 3 [(0, .ref a.1), (1, .int (nI z))] := hl
  have loop : ∀ (f i : Nat) (H : Heap) (locs : List Loc) (ls : Array Slot), i ≤ z → z + 1 ≤ i + f → va_P D classes (wT a cA n (nI z) vis (T.1, T.2.1, clr T.2.2 i)) H → va_D A (wT a cA n (nI z) vis (T.1, T.2.1, clr T.2.2 i)) → va_S A s.heap H locs → lv_has ls 3 [(2, .int (nI i)), (0, .ref a.1), (1, .int (nI z))] → W p l e { frames := 0, cells := 0, slots := 0, locals := 0 } s m args below meth c H locs 0 0 Q (F0 m 7 ls []) := by
    intro f
    induction f with
    | zero => intro i H locs ls h1 h2; exact absurd h2 (by omega)
    | succ f ih =>
      intro i H locs ls hi hf hP hD hS hl
      refine lv_iload_n hx hb d_T_clear_7 rfl (lv_at hl 0 rfl) ?_
      refine lv_iload_n hx hb d_T_clear_8 rfl (lv_at hl 2 rfl) ?_
      refine lv_icmp_ge (tgt := 25) hx hb d_T_clear_9 (by decide) (fun c1 => ?_) (fun c1 => ?_)
      · skip
        have hiz : i = z := by
          rcases Nat.lt_or_ge i z with q | q
          · exact absurd c1 (nI_ge q (by omega))
          · omega
        subst hiz
        exact hret _ _ _ _ _ () d_T_clear_25 hP hD hS (trivial) rfl
      · skip
        have hiz : i < z := by
          rcases Nat.lt_or_ge i z with q | q
          · exact q
          · exact absurd (nI_le q (by omega)) c1
        refine lv_aload_n hx hb d_T_clear_12 rfl (lv_at hl 1 rfl) ?_
        refine va_get (D := D) (cl := classes) (ci := 1) (v := .ref a.2.2.2) (C := "StepMap$Table") (T := F_T) (N := 5) hx hb ht i_T hown hk.1 hP 0 rfl rfl 2 (by decide) (ht _ mw_1_26) (fun _ h9 => h9) rfl d_T_clear_13 ?_
        refine lv_iload_n hx hb d_T_clear_16 rfl (lv_at hl 0 rfl) ?_
        refine lv_iconst (v := 0) hx hb d_T_clear_17 (by decide) ?_
        refine x_ast hx hb hk hP hD hS 3 0 rfl rfl (i := i) (x := 0) (by omega) (by omega) d_T_clear_18 (fun H locs hP hD hS => ?_)
        have hP : va_P D classes (wT a cA n (nI z) vis (T.1, T.2.1, (upd (clr T.2.2 i) i 0))) H := hP
        have hD : va_D A (wT a cA n (nI z) vis (T.1, T.2.1, (upd (clr T.2.2 i) i 0))) := hD
        rw [clr_s] at hP hD
        refine lv_iinc (v := (nI (i + 1))) (lv' := [(2, .int (nI (i + 1))), (0, .ref a.1), (1, .int (nI z))]) hx hb d_T_clear_19 hl (k := 0) rfl (nI_1 i) (by decide) rfl (fun ls hl => ?_)
        refine lv_goto (tgt := 7) hx hb d_T_clear_22 (by decide) ?_
        exact ih (i + 1) _ _ _ hiz (by omega) hP hD hS (lv_sub hl [0, 1, 2] rfl)
  refine lv_aload_n hx hb d_T_clear_0 rfl (lv_at hl 0 rfl) ?_
  refine lv_iload_n hx hb d_T_clear_1 rfl (lv_at hl 1 rfl) ?_
  refine va_put (D := D) (cl := classes) (ci := 1) (v := .int (nI z)) (ty := .int) (C := "StepMap$Table") (T := F_T) (N := 5) hx hb ht i_T tt_T tt_T_ok n_T hown hk.1 hP hD hS 0 rfl rfl 3 (by decide) (ht _ mw_1_28) (fun _ h9 => h9) rfl (by decide +kernel) rfl rfl (Nat.le_of_ble_eq_true rfl) d_T_clear_2 (fun H locs hP hD hS => ?_)
  have hP : va_P D classes (wT a cA n (nI z) vis T) H := hP
  have hD : va_D A (wT a cA n (nI z) vis T) := hD
  refine lv_iconst (v := 0) hx hb d_T_clear_5 (by decide) ?_
  refine x_top (z := (nI 0)) (nI_0.symm) ?_
  refine lv_istore_n (lv' := [(2, .int (nI 0)), (0, .ref a.1), (1, .int (nI z))]) hx hb d_T_clear_6 rfl hl (by decide) rfl (fun ls hl => ?_)
  have hP2 : va_P D classes (wT a cA n (nI z) vis (T.1, T.2.1, clr T.2.2 0)) H := by rw [clr_0]; exact hP
  have hD2 : va_D A (wT a cA n (nI z) vis (T.1, T.2.1, clr T.2.2 0)) := by rw [clr_0]; exact hD
  exact loop (z + 1) 0 _ _ _ (Nat.zero_le _) (by omega) hP2 hD2 hS hl
set_option maxHeartbeats 4000000 in
set_option maxRecDepth 100000 in
theorem c_T_find (l : Launch) (D : va_G) (cA : ClassId) (a : Ad) (n cap : Nat) (vis : Int32) (T : Tb) (k : Int32) (hc : pw cap) (hcn : cap ≤ n) (hn : n ≤ 1024) (hf : fok cap T k) : Mi l D [(cA, .int)] y_T_find b_T_find 3 (some .int) 2 42 [.ref a.1, .int k] (wT a cA n (nI cap) vis T) (fun r (_ : Unit) => r = nI (fsl cap T k)) (fun _ => wT a cA n (nI cap) (vis + nI (fct cap T k)) T) := by
  refine mi_start (own := "StepMap$Table") (by decide +kernel) rfl (Nat.le_of_ble_eq_true rfl) ?_
  intro p e s m args below meth c ls A Q hx hb hml hown ht hk hP hD hA hl hret
  have hS : va_S A s.heap s.heap [] := va_S.rf
  have hl : lv_has ls 3 [(0, .ref a.1), (1, .int k)] := hl
  have loop : ∀ (f i : Nat) (v : Int32) (H : Heap) (locs : List Loc) (ls : Array Slot), i < cap → en cap T k f i → va_P D classes (wT a cA n (nI cap) v T) H → va_D A (wT a cA n (nI cap) v T) → va_S A s.heap H locs → lv_has ls 3 [(2, .int (nI i)), (0, .ref a.1), (1, .int k)] → fds cap T k f i = fsl cap T k → v + nI (fdn cap T k f i) = vis + nI (fct cap T k) → W p l e { frames := 2, cells := 0, slots := 0, locals := 42 } s m args below meth c H locs 0 0 Q (F0 m 16 ls []) := by
    intro f
    induction f with
    | zero => intro i v H locs ls h1 h2; exact h2.elim
    | succ f ih =>
      intro i v H locs ls hi he hP hD hS hl e1 e2
      have fin : stp T k i → W p l e { frames := 2, cells := 0, slots := 0, locals := 42 } s m args below meth c H locs 0 0 Q (F0 m 64 ls []) := by
        intro hs
        simp only [fds, fdn, if_pos hs] at e1 e2
        refine lv_iload_n hx hb d_T_find_64 rfl (lv_at hl 0 rfl) ?_
        refine x_top (z := (nI (fsl cap T k))) (by rw [e1]) ?_
        have e2 : v = vis + nI (fct cap T k) := by rw [← e2, nI_0]; exact (Int32.add_zero v).symm
        rw [e2] at hP hD
        exact hret _ _ _ _ _ _ () d_T_find_65 hP hD hS (rfl) rfl
      have nxt : ¬ stp T k i → W p l e { frames := 2, cells := 0, slots := 0, locals := 42 } s m args below meth c H locs 0 0 Q (F0 m 45 ls []) := by
        intro hs
        simp only [fds, fdn, if_neg hs] at e1 e2
        have he : en cap T k f (nx cap i) := by rcases he with h | h; exact absurd h hs; exact h
        refine lv_aload_n hx hb d_T_find_45 rfl (lv_at hl 1 rfl) ?_
        refine lv_iload_n hx hb d_T_find_46 rfl (lv_at hl 0 rfl) ?_
        refine xV_i (D := D) (k := 1) (ci := 1) (q := ("StepMap$Table", F_T, 5)) (wr := []) (wb := fun u => (wT a cA n (nI cap) v T)) (rest := []) ⟨hx, hb, hml, hown, ht⟩ (c_T_next l D cA a n cap v T i hc hi) gv_T_35 (by decide +kernel) rfl ⟨Nat.le_of_ble_eq_true rfl, Nat.le_of_ble_eq_true rfl⟩ hk hP hD hS hA [0, 1, 2, 3] [] [0, 1, 2, 3] rfl rfl (fun _ => rfl) ⟨rfl, rfl, rfl⟩ (by decide) rfl rfl hl.1 rfl (Nat.le_of_ble_eq_true rfl) d_T_find_47 ⟨Nat.zero_le _, Nat.zero_le _⟩ (fun r u H locs hp hP hD hS => ?_)
        have hp : r = (nI (nx cap i)) := hp
        subst hp
        have hP : va_P D classes (wT a cA n (nI cap) v T) H := hP
        have hD : va_D A (wT a cA n (nI cap) v T) := hD
        refine lv_istore_n (lv' := [(2, .int (nI (nx cap i))), (0, .ref a.1), (1, .int k)]) hx hb d_T_find_50 rfl hl (by decide) rfl (fun ls hl => ?_)
        refine lv_aload_n hx hb d_T_find_51 rfl (lv_at hl 1 rfl) ?_
        refine lv_dup hx hb d_T_find_52 rfl ?_
        refine va_get (D := D) (cl := classes) (ci := 1) (v := .int v) (C := "StepMap$Table") (T := F_T) (N := 5) hx hb ht i_T hown hk.1 hP 0 rfl rfl 4 (by decide) (ht _ mw_1_31) (fun _ h9 => h9) rfl d_T_find_53 ?_
        refine lv_iconst (v := 1) hx hb d_T_find_56 (by decide) ?_
        refine lv_iadd hx hb d_T_find_57 ?_
        refine va_put (D := D) (cl := classes) (ci := 1) (v := .int (v + 1)) (ty := .int) (C := "StepMap$Table") (T := F_T) (N := 5) hx hb ht i_T tt_T tt_T_ok n_T hown hk.1 hP hD hS 0 rfl rfl 4 (by decide) (ht _ mw_1_31) (fun _ h9 => h9) rfl (by decide +kernel) rfl rfl (Nat.le_of_ble_eq_true rfl) d_T_find_58 (fun H locs hP hD hS => ?_)
        have hP : va_P D classes (wT a cA n (nI cap) (v + 1) T) H := hP
        have hD : va_D A (wT a cA n (nI cap) (v + 1) T) := hD
        refine lv_goto (tgt := 16) hx hb d_T_find_61 (by decide) ?_
        exact ih (nx cap i) (v + 1) _ _ _ (nx_lt hc i) he hP hD hS hl e1 (by rw [← e2, nI_succ]; ac_rfl)
      refine lv_aload_n hx hb d_T_find_16 rfl (lv_at hl 1 rfl) ?_
      refine va_get (D := D) (cl := classes) (ci := 1) (v := .ref a.2.2.2) (C := "StepMap$Table") (T := F_T) (N := 5) hx hb ht i_T hown hk.1 hP 0 rfl rfl 2 (by decide) (ht _ mw_1_26) (fun _ h9 => h9) rfl d_T_find_17 ?_
      refine lv_iload_n hx hb d_T_find_20 rfl (lv_at hl 0 rfl) ?_
      refine x_ald hx hb hk hP 3 0 rfl rfl (i := i) (by omega) (by omega) d_T_find_21 ?_
      refine lv_if_eq (tgt := 64) hx hb d_T_find_22 (by decide) (fun c1 => ?_) (fun c1 => ?_)
      · skip
        exact fin (Or.inl c1)
      · skip
        refine lv_aload_n hx hb d_T_find_25 rfl (lv_at hl 1 rfl) ?_
        refine va_get (D := D) (cl := classes) (ci := 1) (v := .ref a.2.2.2) (C := "StepMap$Table") (T := F_T) (N := 5) hx hb ht i_T hown hk.1 hP 0 rfl rfl 2 (by decide) (ht _ mw_1_26) (fun _ h9 => h9) rfl d_T_find_26 ?_
        refine lv_iload_n hx hb d_T_find_29 rfl (lv_at hl 0 rfl) ?_
        refine x_ald hx hb hk hP 3 0 rfl rfl (i := i) (by omega) (by omega) d_T_find_30 ?_
        refine lv_iconst (v := 1) hx hb d_T_find_31 (by decide) ?_
        refine lv_icmp_ne (tgt := 45) hx hb d_T_find_32 (by decide) (fun c2 => ?_) (fun c2 => ?_)
        · skip
          exact nxt (fun h => by rcases h with h | h; exact c1 h; exact c2 h.1)
        · skip
          refine lv_aload_n hx hb d_T_find_35 rfl (lv_at hl 1 rfl) ?_
          refine va_get (D := D) (cl := classes) (ci := 1) (v := .ref a.2.1) (C := "StepMap$Table") (T := F_T) (N := 5) hx hb ht i_T hown hk.1 hP 0 rfl rfl 0 (by decide) (ht _ mw_1_22) (fun _ h9 => h9) rfl d_T_find_36 ?_
          refine lv_iload_n hx hb d_T_find_39 rfl (lv_at hl 0 rfl) ?_
          refine x_ald hx hb hk hP 1 0 rfl rfl (i := i) (by omega) (by omega) d_T_find_40 ?_
          refine lv_iload_n hx hb d_T_find_41 rfl (lv_at hl 2 rfl) ?_
          refine lv_icmp_eq (tgt := 64) hx hb d_T_find_42 (by decide) (fun c3 => ?_) (fun c3 => ?_)
          · skip
            exact fin (Or.inr ⟨c2, c3⟩)
          · skip
            exact nxt (fun h => by rcases h with h | h; exact c1 h; exact c3 h.2)
  refine lv_aload_n hx hb d_T_find_0 rfl (lv_at hl 0 rfl) ?_
  refine lv_iload_n hx hb d_T_find_1 rfl (lv_at hl 1 rfl) ?_
  refine xV_i (D := D) (k := 1) (ci := 1) (q := ("StepMap$Table", F_T, 5)) (wr := []) (wb := fun u => (wT a cA n (nI cap) vis T)) (rest := []) ⟨hx, hb, hml, hown, ht⟩ (c_T_home l D cA a n cap vis T k hc) gv_T_29 (by decide +kernel) rfl ⟨Nat.le_of_ble_eq_true rfl, Nat.le_of_ble_eq_true rfl⟩ hk hP hD hS hA [0, 1, 2, 3] [] [0, 1, 2, 3] rfl rfl (fun _ => rfl) ⟨rfl, rfl, rfl⟩ (by decide) rfl rfl hl.1 rfl (Nat.le_of_ble_eq_true rfl) d_T_find_2 ⟨Nat.zero_le _, Nat.zero_le _⟩ (fun r u H locs hp hP hD hS => ?_)
  have hp : r = (nI (hm cap k)) := hp
  subst hp
  have hP : va_P D classes (wT a cA n (nI cap) vis T) H := hP
  have hD : va_D A (wT a cA n (nI cap) vis T) := hD
  refine lv_istore_n (lv' := [(2, .int (nI (hm cap k))), (0, .ref a.1), (1, .int k)]) hx hb d_T_find_5 rfl hl (by decide) rfl (fun ls hl => ?_)
  refine lv_aload_n hx hb d_T_find_6 rfl (lv_at hl 1 rfl) ?_
  refine lv_dup hx hb d_T_find_7 rfl ?_
  refine va_get (D := D) (cl := classes) (ci := 1) (v := .int vis) (C := "StepMap$Table") (T := F_T) (N := 5) hx hb ht i_T hown hk.1 hP 0 rfl rfl 4 (by decide) (ht _ mw_1_31) (fun _ h9 => h9) rfl d_T_find_8 ?_
  refine lv_iconst (v := 1) hx hb d_T_find_11 (by decide) ?_
  refine lv_iadd hx hb d_T_find_12 ?_
  refine va_put (D := D) (cl := classes) (ci := 1) (v := .int (vis + 1)) (ty := .int) (C := "StepMap$Table") (T := F_T) (N := 5) hx hb ht i_T tt_T tt_T_ok n_T hown hk.1 hP hD hS 0 rfl rfl 4 (by decide) (ht _ mw_1_31) (fun _ h9 => h9) rfl (by decide +kernel) rfl rfl (Nat.le_of_ble_eq_true rfl) d_T_find_13 (fun H locs hP hD hS => ?_)
  have hP : va_P D classes (wT a cA n (nI cap) (vis + 1) T) H := hP
  have hD : va_D A (wT a cA n (nI cap) (vis + 1) T) := hD
  exact loop cap (hm cap k) (vis + 1) _ _ _ (hm_lt hc k) hf hP hD hS hl rfl (by show _ = vis + nI (fdn cap T k cap (hm cap k) + 1); rw [nI_succ]; ac_rfl)
set_option maxHeartbeats 4000000 in
set_option maxRecDepth 100000 in
theorem c_T_closeUp (l : Launch) (D : va_G) (cA : ClassId) (a : Ad) (n cap : Nat) (vis : Int32) (T : Tb) (sl : Nat) (hc : pw cap) (hcn : cap ≤ n) (hn : n ≤ 1024) (h01 : ∀ j, j < cap → T.2.2 j = 0 ∨ T.2.2 j = 1) (hs : sl < cap) (h1 : T.2.2 sl = 1) (hz : enz cap T.2.2 cap (nx cap sl)) : Mv l D [(cA, .int)] y_T_closeUp b_T_closeUp 5 2 42 0 0 [.ref a.1, .int (nI sl)] (wT a cA n (nI cap) vis T) (fun (_ : Unit) => True) (fun _ => wT a cA n (nI cap) (vis + nI (cuc cap T sl)) (cup cap T sl)) := by
  refine mv_start (own := "StepMap$Table") (by decide +kernel) rfl (Nat.le_of_ble_eq_true rfl) ?_
  intro p e s m args below meth c ls A Q hx hb hml hin hown ht hk hP hD hA hl hret
  have hS : va_S A s.heap s.heap [] := va_S.rf
  have hl : lv_has ls 5 [(0, .ref a.1), (1, .int (nI sl))] := hl
  have loop : ∀ (f fr i : Nat) (ks vs : Nat → Int32) (v : Int32) (H : Heap) (locs : List Loc) (ls : Array Slot), fr < cap → T.2.2 fr = 1 → i < cap → enz cap T.2.2 f i → va_P D classes (wT a cA n (nI cap) v (ks, vs, T.2.2)) H → va_D A (wT a cA n (nI cap) v (ks, vs, T.2.2)) → va_S A s.heap H locs → lv_has ls 5 [(3, .int (nI i)), (2, .int (nI fr)), (0, .ref a.1), (1, .int (nI sl))] → cu cap T.2.2 f fr i ks vs = cur3 cap T sl → v + nI (cun cap T.2.2 f i) = vis + nI (cuc cap T sl) → W p l e { frames := 2, cells := 0, slots := 0, locals := 42 } s m args below meth c H locs 0 0 Q (F0 m 18 ls []) := by
    intro f
    induction f with
    | zero => intro fr i ks vs v H locs ls _ _ _ h2; exact h2.elim
    | succ f ih =>
      intro fr i ks vs v H locs ls hfr hs1 hi he hP hD hS hl e1 e2
      refine lv_aload_n hx hb d_T_closeUp_18 rfl (lv_at hl 2 rfl) ?_
      refine va_get (D := D) (cl := classes) (ci := 1) (v := .ref a.2.2.2) (C := "StepMap$Table") (T := F_T) (N := 5) hx hb ht i_T hown hk.1 hP 0 rfl rfl 2 (by decide) (ht _ mw_1_26) (fun _ h9 => h9) rfl d_T_closeUp_19 ?_
      refine lv_iload_n hx hb d_T_closeUp_22 rfl (lv_at hl 0 rfl) ?_
      refine x_ald hx hb hk hP 3 0 rfl rfl (i := i) (by omega) (by omega) d_T_closeUp_23 ?_
      refine lv_if_eq (tgt := 101) hx hb d_T_closeUp_24 (by decide) (fun c1 => ?_) (fun c1 => ?_)
      · skip
        simp only [cu, cun, if_pos c1] at e1 e2
        refine lv_aload_n hx hb d_T_closeUp_101 rfl (lv_at hl 2 rfl) ?_
        refine va_get (D := D) (cl := classes) (ci := 1) (v := .ref a.2.2.2) (C := "StepMap$Table") (T := F_T) (N := 5) hx hb ht i_T hown hk.1 hP 0 rfl rfl 2 (by decide) (ht _ mw_1_26) (fun _ h9 => h9) rfl d_T_closeUp_102 ?_
        refine lv_iload_n hx hb d_T_closeUp_105 rfl (lv_at hl 1 rfl) ?_
        refine lv_iconst (v := 0) hx hb d_T_closeUp_106 (by decide) ?_
        refine x_ast hx hb hk hP hD hS 3 0 rfl rfl (i := fr) (x := 0) (by omega) (by omega) d_T_closeUp_107 (fun H locs hP hD hS => ?_)
        have hP : va_P D classes (wT a cA n (nI cap) v (ks, vs, (upd T.2.2 fr 0))) H := hP
        have hD : va_D A (wT a cA n (nI cap) v (ks, vs, (upd T.2.2 fr 0))) := hD
        have e2 : v = vis + nI (cuc cap T sl) := by rw [← e2, nI_0]; exact (Int32.add_zero v).symm
        have e3 : (cup cap T sl) = (ks, vs, upd T.2.2 fr 0) := by unfold cup; rw [← e1]
        have hP : va_P D classes (wT a cA n (nI cap) (vis + nI (cuc cap T sl)) (cup cap T sl)) H := by rw [e3, ← e2]; exact hP
        have hD : va_D A (wT a cA n (nI cap) (vis + nI (cuc cap T sl)) (cup cap T sl)) := by rw [e3, ← e2]; exact hD
        exact hret _ _ _ _ _ () d_T_closeUp_108 hP hD hS (trivial) rfl
      · skip
        have he : enz cap T.2.2 f (nx cap i) := by rcases he with h | h; exact absurd h c1; exact h
        have hi1 : T.2.2 i = 1 := by rcases h01 i hi with h | h; exact absurd h c1; exact h
        refine lv_iload_n hx hb d_T_closeUp_27 rfl (lv_at hl 0 rfl) ?_
        refine lv_aload_n hx hb d_T_closeUp_28 rfl (lv_at hl 2 rfl) ?_
        refine lv_aload_n hx hb d_T_closeUp_29 rfl (lv_at hl 2 rfl) ?_
        refine va_get (D := D) (cl := classes) (ci := 1) (v := .ref a.2.1) (C := "StepMap$Table") (T := F_T) (N := 5) hx hb ht i_T hown hk.1 hP 0 rfl rfl 0 (by decide) (ht _ mw_1_22) (fun _ h9 => h9) rfl d_T_closeUp_30 ?_
        refine lv_iload_n hx hb d_T_closeUp_33 rfl (lv_at hl 0 rfl) ?_
        refine x_ald hx hb hk hP 1 0 rfl rfl (i := i) (by omega) (by omega) d_T_closeUp_34 ?_
        refine xV_i (D := D) (k := 1) (ci := 1) (q := ("StepMap$Table", F_T, 5)) (wr := []) (wb := fun u => (wT a cA n (nI cap) v (ks, vs, T.2.2))) (rest := [.int (nI i)]) ⟨hx, hb, hml, hown, ht⟩ (c_T_home l D cA a n cap v (ks, vs, T.2.2) (ks i) hc) gv_T_29 (by decide +kernel) rfl ⟨Nat.le_of_ble_eq_true rfl, Nat.le_of_ble_eq_true rfl⟩ hk hP hD hS hA [0, 1, 2, 3] [] [0, 1, 2, 3] rfl rfl (fun _ => rfl) ⟨rfl, rfl, rfl⟩ (by decide) rfl rfl hl.1 rfl (Nat.le_of_ble_eq_true rfl) d_T_closeUp_35 ⟨Nat.zero_le _, Nat.zero_le _⟩ (fun r u H locs hp hP hD hS => ?_)
        have hp : r = (nI (hm cap (ks i))) := hp
        subst hp
        have hP : va_P D classes (wT a cA n (nI cap) v (ks, vs, T.2.2)) H := hP
        have hD : va_D A (wT a cA n (nI cap) v (ks, vs, T.2.2)) := hD
        refine lv_isub hx hb d_T_closeUp_38 ?_
        refine lv_aload_n hx hb d_T_closeUp_39 rfl (lv_at hl 2 rfl) ?_
        refine va_get (D := D) (cl := classes) (ci := 1) (v := .int (nI cap)) (C := "StepMap$Table") (T := F_T) (N := 5) hx hb ht i_T hown hk.1 hP 0 rfl rfl 3 (by decide) (ht _ mw_1_28) (fun _ h9 => h9) rfl d_T_closeUp_40 ?_
        refine lv_iconst (v := 1) hx hb d_T_closeUp_43 (by decide) ?_
        refine lv_isub hx hb d_T_closeUp_44 ?_
        refine lv_iand hx hb d_T_closeUp_45 ?_
        refine x_top (z := (nI (ds cap (hm cap (ks i)) i))) (and_dist hc hi (hm_lt hc _)) ?_
        refine lv_istore (lv' := [(4, .int (nI (ds cap (hm cap (ks i)) i))), (3, .int (nI i)), (2, .int (nI fr)), (0, .ref a.1), (1, .int (nI sl))]) hx hb d_T_closeUp_46 hl (by decide) rfl (fun ls hl => ?_)
        refine lv_iload hx hb d_T_closeUp_48 (lv_at hl 0 rfl) ?_
        refine lv_iload_n hx hb d_T_closeUp_50 rfl (lv_at hl 1 rfl) ?_
        refine lv_iload_n hx hb d_T_closeUp_51 rfl (lv_at hl 2 rfl) ?_
        refine lv_isub hx hb d_T_closeUp_52 ?_
        refine lv_aload_n hx hb d_T_closeUp_53 rfl (lv_at hl 3 rfl) ?_
        refine va_get (D := D) (cl := classes) (ci := 1) (v := .int (nI cap)) (C := "StepMap$Table") (T := F_T) (N := 5) hx hb ht i_T hown hk.1 hP 0 rfl rfl 3 (by decide) (ht _ mw_1_28) (fun _ h9 => h9) rfl d_T_closeUp_54 ?_
        refine lv_iconst (v := 1) hx hb d_T_closeUp_57 (by decide) ?_
        refine lv_isub hx hb d_T_closeUp_58 ?_
        refine lv_iand hx hb d_T_closeUp_59 ?_
        refine x_top (z := (nI (ds cap fr i))) (and_dist hc hi hfr) ?_
        have d1 := ds_lt hc (hm cap (ks i)) i
        have d2 := ds_lt hc fr i
        have hcl := hc.le
        refine lv_icmp_lt (tgt := 82) hx hb d_T_closeUp_60 (by decide) (fun c2 => ?_) (fun c2 => ?_)
        · skip
          have hAA : ¬ ds cap fr i ≤ ds cap (hm cap (ks i)) i := by
            have := (nI_ltI (by omega) (by omega)).mp c2
            omega
          simp only [cu, cun, if_neg c1, if_neg hAA] at e1 e2
          refine lv_aload_n hx hb d_T_closeUp_82 rfl (lv_at hl 3 rfl) ?_
          refine lv_iload_n hx hb d_T_closeUp_83 rfl (lv_at hl 1 rfl) ?_
          refine xV_i (D := D) (k := 1) (ci := 1) (q := ("StepMap$Table", F_T, 5)) (wr := []) (wb := fun u => (wT a cA n (nI cap) v (ks, vs, T.2.2))) (rest := []) ⟨hx, hb, hml, hown, ht⟩ (c_T_next l D cA a n cap v (ks, vs, T.2.2) i hc hi) gv_T_35 (by decide +kernel) rfl ⟨Nat.le_of_ble_eq_true rfl, Nat.le_of_ble_eq_true rfl⟩ hk hP hD hS hA [0, 1, 2, 3] [] [0, 1, 2, 3] rfl rfl (fun _ => rfl) ⟨rfl, rfl, rfl⟩ (by decide) rfl rfl hl.1 rfl (Nat.le_of_ble_eq_true rfl) d_T_closeUp_84 ⟨Nat.zero_le _, Nat.zero_le _⟩ (fun r u H locs hp hP hD hS => ?_)
          have hp : r = (nI (nx cap i)) := hp
          subst hp
          have hP : va_P D classes (wT a cA n (nI cap) v (ks, vs, T.2.2)) H := hP
          have hD : va_D A (wT a cA n (nI cap) v (ks, vs, T.2.2)) := hD
          refine lv_istore_n (lv' := [(3, .int (nI (nx cap i))), (4, .int (nI (ds cap (hm cap (ks i)) i))), (2, .int (nI fr)), (0, .ref a.1), (1, .int (nI sl))]) hx hb d_T_closeUp_87 rfl hl (by decide) rfl (fun ls hl => ?_)
          refine lv_aload_n hx hb d_T_closeUp_88 rfl (lv_at hl 3 rfl) ?_
          refine lv_dup hx hb d_T_closeUp_89 rfl ?_
          refine va_get (D := D) (cl := classes) (ci := 1) (v := .int v) (C := "StepMap$Table") (T := F_T) (N := 5) hx hb ht i_T hown hk.1 hP 0 rfl rfl 4 (by decide) (ht _ mw_1_31) (fun _ h9 => h9) rfl d_T_closeUp_90 ?_
          refine lv_iconst (v := 1) hx hb d_T_closeUp_93 (by decide) ?_
          refine lv_iadd hx hb d_T_closeUp_94 ?_
          refine va_put (D := D) (cl := classes) (ci := 1) (v := .int (v + 1)) (ty := .int) (C := "StepMap$Table") (T := F_T) (N := 5) hx hb ht i_T tt_T tt_T_ok n_T hown hk.1 hP hD hS 0 rfl rfl 4 (by decide) (ht _ mw_1_31) (fun _ h9 => h9) rfl (by decide +kernel) rfl rfl (Nat.le_of_ble_eq_true rfl) d_T_closeUp_95 (fun H locs hP hD hS => ?_)
          have hP : va_P D classes (wT a cA n (nI cap) (v + 1) (ks, vs, T.2.2)) H := hP
          have hD : va_D A (wT a cA n (nI cap) (v + 1) (ks, vs, T.2.2)) := hD
          refine lv_goto (tgt := 18) hx hb d_T_closeUp_98 (by decide) ?_
          exact ih fr (nx cap i) ks vs (v + 1) _ _ _ hfr hs1 (nx_lt hc i) he hP hD hS (lv_sub hl [0, 2, 3, 4] rfl) e1 (by rw [← e2, nI_succ]; ac_rfl)
        · skip
          have hAA : ds cap fr i ≤ ds cap (hm cap (ks i)) i := by
            rcases Nat.lt_or_ge (ds cap (hm cap (ks i)) i) (ds cap fr i) with q | q
            · exact absurd (nI_lt q (by omega)) c2
            · exact q
          simp only [cu, cun, if_neg c1, if_pos hAA] at e1 e2
          refine lv_aload_n hx hb d_T_closeUp_63 rfl (lv_at hl 3 rfl) ?_
          refine lv_iload_n hx hb d_T_closeUp_64 rfl (lv_at hl 2 rfl) ?_
          refine lv_aload_n hx hb d_T_closeUp_65 rfl (lv_at hl 3 rfl) ?_
          refine va_get (D := D) (cl := classes) (ci := 1) (v := .ref a.2.1) (C := "StepMap$Table") (T := F_T) (N := 5) hx hb ht i_T hown hk.1 hP 0 rfl rfl 0 (by decide) (ht _ mw_1_22) (fun _ h9 => h9) rfl d_T_closeUp_66 ?_
          refine lv_iload_n hx hb d_T_closeUp_69 rfl (lv_at hl 1 rfl) ?_
          refine x_ald hx hb hk hP 1 0 rfl rfl (i := i) (by omega) (by omega) d_T_closeUp_70 ?_
          refine lv_aload_n hx hb d_T_closeUp_71 rfl (lv_at hl 3 rfl) ?_
          refine va_get (D := D) (cl := classes) (ci := 1) (v := .ref a.2.2.1) (C := "StepMap$Table") (T := F_T) (N := 5) hx hb ht i_T hown hk.1 hP 0 rfl rfl 1 (by decide) (ht _ mw_1_24) (fun _ h9 => h9) rfl d_T_closeUp_72 ?_
          refine lv_iload_n hx hb d_T_closeUp_75 rfl (lv_at hl 1 rfl) ?_
          refine x_ald hx hb hk hP 2 0 rfl rfl (i := i) (by omega) (by omega) d_T_closeUp_76 ?_
          refine xV_v (D := D) (k := 3) (ci := 1) (q := ("StepMap$Table", F_T, 5)) (wr := []) (wb := fun u => (wT a cA n (nI cap) v ((upd ks fr (ks i)), (upd vs fr (vs i)), (upd T.2.2 fr 1)))) (rest := []) ⟨hx, hb, hml, hown, ht⟩ (c_T_put l D cA a n cap v (ks, vs, T.2.2) fr (ks i) (vs i) hn (by omega)) gv_T_38 (by decide +kernel) rfl ⟨Nat.le_of_ble_eq_true rfl, Nat.le_of_ble_eq_true rfl⟩ hk hP hD hS hA [0, 1, 2, 3] [] [0, 1, 2, 3] rfl rfl (fun _ => rfl) ⟨rfl, rfl, rfl⟩ (by decide) rfl rfl hl.1 rfl (Nat.le_of_ble_eq_true rfl) d_T_closeUp_77 ⟨Nat.zero_le _, Nat.zero_le _⟩ (fun u H locs hp hP hD hS => ?_)
          have hP : va_P D classes (wT a cA n (nI cap) v ((upd ks fr (ks i)), (upd vs fr (vs i)), (upd T.2.2 fr 1))) H := hP
          have hD : va_D A (wT a cA n (nI cap) v ((upd ks fr (ks i)), (upd vs fr (vs i)), (upd T.2.2 fr 1))) := hD
          rw [upd_self hs1] at hP hD
          refine lv_iload_n hx hb d_T_closeUp_80 rfl (lv_at hl 1 rfl) ?_
          refine lv_istore_n (lv' := [(2, .int (nI i)), (4, .int (nI (ds cap (hm cap (ks i)) i))), (3, .int (nI i)), (0, .ref a.1), (1, .int (nI sl))]) hx hb d_T_closeUp_81 rfl hl (by decide) rfl (fun ls hl => ?_)
          refine lv_aload_n hx hb d_T_closeUp_82 rfl (lv_at hl 3 rfl) ?_
          refine lv_iload_n hx hb d_T_closeUp_83 rfl (lv_at hl 2 rfl) ?_
          refine xV_i (D := D) (k := 1) (ci := 1) (q := ("StepMap$Table", F_T, 5)) (wr := []) (wb := fun u => (wT a cA n (nI cap) v ((upd ks fr (ks i)), (upd vs fr (vs i)), T.2.2))) (rest := []) ⟨hx, hb, hml, hown, ht⟩ (c_T_next l D cA a n cap v (upd ks fr (ks i), upd vs fr (vs i), T.2.2) i hc hi) gv_T_35 (by decide +kernel) rfl ⟨Nat.le_of_ble_eq_true rfl, Nat.le_of_ble_eq_true rfl⟩ hk hP hD hS hA [0, 1, 2, 3] [] [0, 1, 2, 3] rfl rfl (fun _ => rfl) ⟨rfl, rfl, rfl⟩ (by decide) rfl rfl hl.1 rfl (Nat.le_of_ble_eq_true rfl) d_T_closeUp_84 ⟨Nat.zero_le _, Nat.zero_le _⟩ (fun r u H locs hp hP hD hS => ?_)
          have hp : r = (nI (nx cap i)) := hp
          subst hp
          have hP : va_P D classes (wT a cA n (nI cap) v ((upd ks fr (ks i)), (upd vs fr (vs i)), T.2.2)) H := hP
          have hD : va_D A (wT a cA n (nI cap) v ((upd ks fr (ks i)), (upd vs fr (vs i)), T.2.2)) := hD
          refine lv_istore_n (lv' := [(3, .int (nI (nx cap i))), (2, .int (nI i)), (4, .int (nI (ds cap (hm cap (ks i)) i))), (0, .ref a.1), (1, .int (nI sl))]) hx hb d_T_closeUp_87 rfl hl (by decide) rfl (fun ls hl => ?_)
          refine lv_aload_n hx hb d_T_closeUp_88 rfl (lv_at hl 3 rfl) ?_
          refine lv_dup hx hb d_T_closeUp_89 rfl ?_
          refine va_get (D := D) (cl := classes) (ci := 1) (v := .int v) (C := "StepMap$Table") (T := F_T) (N := 5) hx hb ht i_T hown hk.1 hP 0 rfl rfl 4 (by decide) (ht _ mw_1_31) (fun _ h9 => h9) rfl d_T_closeUp_90 ?_
          refine lv_iconst (v := 1) hx hb d_T_closeUp_93 (by decide) ?_
          refine lv_iadd hx hb d_T_closeUp_94 ?_
          refine va_put (D := D) (cl := classes) (ci := 1) (v := .int (v + 1)) (ty := .int) (C := "StepMap$Table") (T := F_T) (N := 5) hx hb ht i_T tt_T tt_T_ok n_T hown hk.1 hP hD hS 0 rfl rfl 4 (by decide) (ht _ mw_1_31) (fun _ h9 => h9) rfl (by decide +kernel) rfl rfl (Nat.le_of_ble_eq_true rfl) d_T_closeUp_95 (fun H locs hP hD hS => ?_)
          have hP : va_P D classes (wT a cA n (nI cap) (v + 1) ((upd ks fr (ks i)), (upd vs fr (vs i)), T.2.2)) H := hP
          have hD : va_D A (wT a cA n (nI cap) (v + 1) ((upd ks fr (ks i)), (upd vs fr (vs i)), T.2.2)) := hD
          refine lv_goto (tgt := 18) hx hb d_T_closeUp_98 (by decide) ?_
          exact ih i (nx cap i) _ _ (v + 1) _ _ _ hi hi1 (nx_lt hc i) he hP hD hS (lv_sub hl [0, 1, 3, 4] rfl) e1 (by rw [← e2, nI_succ]; ac_rfl)
  refine lv_iload_n hx hb d_T_closeUp_0 rfl (lv_at hl 1 rfl) ?_
  refine lv_istore_n (lv' := [(2, .int (nI sl)), (0, .ref a.1), (1, .int (nI sl))]) hx hb d_T_closeUp_1 rfl hl (by decide) rfl (fun ls hl => ?_)
  refine lv_aload_n hx hb d_T_closeUp_2 rfl (lv_at hl 1 rfl) ?_
  refine lv_iload_n hx hb d_T_closeUp_3 rfl (lv_at hl 2 rfl) ?_
  refine xV_i (D := D) (k := 1) (ci := 1) (q := ("StepMap$Table", F_T, 5)) (wr := []) (wb := fun u => (wT a cA n (nI cap) vis T)) (rest := []) ⟨hx, hb, hml, hown, ht⟩ (c_T_next l D cA a n cap vis T sl hc hs) gv_T_35 (by decide +kernel) rfl ⟨Nat.le_of_ble_eq_true rfl, Nat.le_of_ble_eq_true rfl⟩ hk hP hD hS hA [0, 1, 2, 3] [] [0, 1, 2, 3] rfl rfl (fun _ => rfl) ⟨rfl, rfl, rfl⟩ (by decide) rfl rfl hl.1 rfl (Nat.le_of_ble_eq_true rfl) d_T_closeUp_4 ⟨Nat.zero_le _, Nat.zero_le _⟩ (fun r u H locs hp hP hD hS => ?_)
  have hp : r = (nI (nx cap sl)) := hp
  subst hp
  have hP : va_P D classes (wT a cA n (nI cap) vis T) H := hP
  have hD : va_D A (wT a cA n (nI cap) vis T) := hD
  refine lv_istore_n (lv' := [(3, .int (nI (nx cap sl))), (2, .int (nI sl)), (0, .ref a.1), (1, .int (nI sl))]) hx hb d_T_closeUp_7 rfl hl (by decide) rfl (fun ls hl => ?_)
  refine lv_aload_n hx hb d_T_closeUp_8 rfl (lv_at hl 2 rfl) ?_
  refine lv_dup hx hb d_T_closeUp_9 rfl ?_
  refine va_get (D := D) (cl := classes) (ci := 1) (v := .int vis) (C := "StepMap$Table") (T := F_T) (N := 5) hx hb ht i_T hown hk.1 hP 0 rfl rfl 4 (by decide) (ht _ mw_1_31) (fun _ h9 => h9) rfl d_T_closeUp_10 ?_
  refine lv_iconst (v := 1) hx hb d_T_closeUp_13 (by decide) ?_
  refine lv_iadd hx hb d_T_closeUp_14 ?_
  refine va_put (D := D) (cl := classes) (ci := 1) (v := .int (vis + 1)) (ty := .int) (C := "StepMap$Table") (T := F_T) (N := 5) hx hb ht i_T tt_T tt_T_ok n_T hown hk.1 hP hD hS 0 rfl rfl 4 (by decide) (ht _ mw_1_31) (fun _ h9 => h9) rfl (by decide +kernel) rfl rfl (Nat.le_of_ble_eq_true rfl) d_T_closeUp_15 (fun H locs hP hD hS => ?_)
  have hP : va_P D classes (wT a cA n (nI cap) (vis + 1) T) H := hP
  have hD : va_D A (wT a cA n (nI cap) (vis + 1) T) := hD
  exact loop cap sl (nx cap sl) T.1 T.2.1 (vis + 1) _ _ _ hs h1 (nx_lt hc sl) hz hP hD hS hl rfl (by show _ = vis + nI (cun cap T.2.2 cap (nx cap sl) + 1); rw [nI_succ]; ac_rfl)
end
section
/-! The map's state as its cells, and what the walks over it need of the numbers -/
abbrev wS (h hf : Nat) (a b : Ad) (cA : ClassId) (S : Sm) (fv ov : Int32) : va_W := wM h hf a.1 b.1 a b cA (nI S.2.2.2.2.1) (nI S.2.2.2.2.2.1) S.2.2.2.2.2.2 (nI S.1) fv S.2.1 (nI S.2.2.1) ov S.2.2.2.1
abbrev Uu : Type := Ad × Ad × Int32 × Int32
def moc (oc cur : Nat) : Nat := if cur + mvc oc cur < oc then oc else 0
def mcu (oc cur : Nat) : Nat := if cur + mvc oc cur < oc then cur + mvc oc cur else 0
theorem mul4 (n : Nat) : 4 * nI n = nI (4 * n) := pk_mul 4 n
theorem mul3 (n : Nat) : 3 * nI n = nI (3 * n) := pk_mul 3 n
theorem mul2 (n : Nat) : 2 * nI n = nI (2 * n) := pk_mul 2 n
theorem mul8 (n : Nat) : 8 * nI n = nI (8 * n) := pk_mul 8 n
theorem mul1024 (n : Nat) : 1024 * nI n = nI (1024 * n) := pk_mul 1024 n
theorem div2N {n : Nat} (h : n < 2 ^ 31) : nI n / 2 = nI (n / 2) := pk_div h (by decide) (by decide)
theorem if10 {c : Prop} [Decidable c] (h : c) : (if c then (1 : Int32) else 0) = 1 := if_pos h
theorem if00 {c : Prop} [Decidable c] (h : ¬ c) : (if c then (1 : Int32) else 0) = 0 := if_neg h
theorem min_mvc {oc cur : Nat} (h : cur < oc) (ho : oc ≤ 1024) : (if nI oc < nI (cur + 4) then nI oc else nI (cur + 4)) = nI (cur + mvc oc cur) := by
  unfold mvc
  by_cases q : oc < cur + 4
  · rw [if_pos (nI_lt q (by omega))]; congr 1; omega
  · rw [if_neg (nI_nlt (by omega) (by omega))]; congr 1; omega
theorem s2_wk (fc : Nat) (F O : Tb) (cnt : Nat) (w1 w2 : Int32) : s2 fc F O cnt w2 = ((s2 fc F O cnt w1).1, (s2 fc F O cnt w1).2.1, (s2 fc F O cnt w1).2.2.1, (s2 fc F O cnt w1).2.2.2.1, (s2 fc F O cnt w1).2.2.2.2.1, (s2 fc F O cnt w1).2.2.2.2.2.1, w2) := by
  unfold s2
  split
  · rfl
  · split <;> rfl
theorem stl_wk (fc : Nat) (F : Tb) (oc : Nat) (O : Tb) (cur cnt : Nat) (w1 w2 : Int32) : stl fc F oc O cur cnt w2 = ((stl fc F oc O cur cnt w1).1, (stl fc F oc O cur cnt w1).2.1, (stl fc F oc O cur cnt w1).2.2.1, (stl fc F oc O cur cnt w1).2.2.2.1, (stl fc F oc O cur cnt w1).2.2.2.2.1, (stl fc F oc O cur cnt w1).2.2.2.2.2.1, w2) := by
  unfold stl
  split
  · split
    · rfl
    · exact s2_wk _ _ _ _ _ _
  · exact s2_wk _ _ _ _ _ _
theorem i0a (x : Int32) : 0 + x = x := Int32.zero_add x
theorem ia0 (x : Int32) : x + 0 = x := Int32.add_zero x
end
section
set_option maxHeartbeats 4000000 in
set_option maxRecDepth 100000 in
theorem c_M_size (l : Launch) (D : va_G) (cA : ClassId) (h hf : Nat) (a b : Ad) (cur cnt fc oc : Nat) (wk fv ov : Int32) (F O : Tb)  : Mi l D [(cA, .int)] y_M_size b_M_size 1 (some .int) 0 0 [.ref h] (wM h hf a.1 b.1 a b cA (nI cur) (nI cnt) wk (nI fc) fv F (nI oc) ov O) (fun r (_ : Unit) => r = nI cnt) (fun _ => (wM h hf a.1 b.1 a b cA (nI cur) (nI cnt) wk (nI fc) fv F (nI oc) ov O)) := by
  refine mi_start (own := "StepMap") (by decide +kernel) rfl (Nat.le_of_ble_eq_true rfl) ?_
  intro p e s m args below meth c ls A Q hx hb hml hown ht hk hP hD hA hl hret
  have hS : va_S A s.heap s.heap [] := va_S.rf
  have hl : lv_has ls 1 [(0, .ref h)] := hl
  refine lv_aload_n hx hb d_M_size_0 rfl (lv_at hl 0 rfl) ?_
  refine va_get (D := D) (cl := classes) (ci := 0) (v := .int (nI cnt)) (C := "StepMap") (T := F_M) (N := 6) hx hb ht i_M hown hk.1 hP 0 rfl rfl 4 (by decide) (ht _ mw_1_52) (fun _ h9 => h9) rfl d_M_size_1 ?_
  exact hret _ _ _ _ _ _ () d_M_size_4 hP hD hS (rfl) rfl
set_option maxHeartbeats 4000000 in
set_option maxRecDepth 100000 in
theorem c_M_lastWork (l : Launch) (D : va_G) (cA : ClassId) (h hf : Nat) (a b : Ad) (cur cnt fc oc : Nat) (wk fv ov : Int32) (F O : Tb)  : Mi l D [(cA, .int)] y_M_lastWork b_M_lastWork 1 (some .int) 0 0 [.ref h] (wM h hf a.1 b.1 a b cA (nI cur) (nI cnt) wk (nI fc) fv F (nI oc) ov O) (fun r (_ : Unit) => r = wk) (fun _ => (wM h hf a.1 b.1 a b cA (nI cur) (nI cnt) wk (nI fc) fv F (nI oc) ov O)) := by
  refine mi_start (own := "StepMap") (by decide +kernel) rfl (Nat.le_of_ble_eq_true rfl) ?_
  intro p e s m args below meth c ls A Q hx hb hml hown ht hk hP hD hA hl hret
  have hS : va_S A s.heap s.heap [] := va_S.rf
  have hl : lv_has ls 1 [(0, .ref h)] := hl
  refine lv_aload_n hx hb d_M_lastWork_0 rfl (lv_at hl 0 rfl) ?_
  refine va_get (D := D) (cl := classes) (ci := 0) (v := .int wk) (C := "StepMap") (T := F_M) (N := 6) hx hb ht i_M hown hk.1 hP 0 rfl rfl 5 (by decide) (ht _ mw_1_53) (fun _ h9 => h9) rfl d_M_lastWork_1 ?_
  exact hret _ _ _ _ _ _ () d_M_lastWork_4 hP hD hS (rfl) rfl
set_option maxHeartbeats 4000000 in
set_option maxRecDepth 100000 in
theorem c_M_capacity (l : Launch) (D : va_G) (cA : ClassId) (h hf : Nat) (a b : Ad) (cur cnt fc oc : Nat) (wk fv ov : Int32) (F O : Tb)  : Mi l D [(cA, .int)] y_M_capacity b_M_capacity 1 (some .int) 0 0 [.ref h] (wM h hf a.1 b.1 a b cA (nI cur) (nI cnt) wk (nI fc) fv F (nI oc) ov O) (fun r (_ : Unit) => r = nI fc) (fun _ => (wM h hf a.1 b.1 a b cA (nI cur) (nI cnt) wk (nI fc) fv F (nI oc) ov O)) := by
  refine mi_start (own := "StepMap") (by decide +kernel) rfl (Nat.le_of_ble_eq_true rfl) ?_
  intro p e s m args below meth c ls A Q hx hb hml hown ht hk hP hD hA hl hret
  have hS : va_S A s.heap s.heap [] := va_S.rf
  have hl : lv_has ls 1 [(0, .ref h)] := hl
  refine lv_aload_n hx hb d_M_capacity_0 rfl (lv_at hl 0 rfl) ?_
  refine va_get (D := D) (cl := classes) (ci := 0) (v := .ref a.1) (C := "StepMap") (T := F_M) (N := 6) hx hb ht i_M hown hk.1 hP 0 rfl rfl 1 (by decide) (ht _ mw_1_49) (fun _ h9 => h9) rfl d_M_capacity_1 ?_
  refine va_getN (D := D) (cl := classes) (ci := 1) (v := .int (nI fc)) (C := "StepMap$Table") (T := F_T) (N := 5) hx hb ht i_T hown hk.1 hP 1 rfl rfl 3 (by decide) (va_Nw.use rfl hk.2.2.2.2.1) (fun _ h9 => h9) rfl d_M_capacity_4 ?_
  exact hret _ _ _ _ _ _ () d_M_capacity_7 hP hD hS (rfl) rfl
set_option maxHeartbeats 4000000 in
set_option maxRecDepth 100000 in
theorem c_M_isMigrating (l : Launch) (D : va_G) (cA : ClassId) (h hf : Nat) (a b : Ad) (cur cnt fc oc : Nat) (wk fv ov : Int32) (F O : Tb) (hcu : cur ≤ oc) (ho : oc ≤ 1024) : Mi l D [(cA, .int)] y_M_isMigrating b_M_isMigrating 1 (some .boolean) 0 0 [.ref h] (wM h hf a.1 b.1 a b cA (nI cur) (nI cnt) wk (nI fc) fv F (nI oc) ov O) (fun r (_ : Unit) => r = if cur < oc then 1 else 0) (fun _ => (wM h hf a.1 b.1 a b cA (nI cur) (nI cnt) wk (nI fc) fv F (nI oc) ov O)) := by
  refine mz_start (own := "StepMap") (by decide +kernel) rfl (Nat.le_of_ble_eq_true rfl) ?_
  intro p e s m args below meth c ls A Q hx hb hml hown ht hk hP hD hA hl hret
  have hS : va_S A s.heap s.heap [] := va_S.rf
  have hl : lv_has ls 1 [(0, .ref h)] := hl
  refine lv_aload_n hx hb d_M_isMigrating_0 rfl (lv_at hl 0 rfl) ?_
  refine va_get (D := D) (cl := classes) (ci := 0) (v := .int (nI cur)) (C := "StepMap") (T := F_M) (N := 6) hx hb ht i_M hown hk.1 hP 0 rfl rfl 3 (by decide) (ht _ mw_1_51) (fun _ h9 => h9) rfl d_M_isMigrating_1 ?_
  refine lv_aload_n hx hb d_M_isMigrating_4 rfl (lv_at hl 0 rfl) ?_
  refine va_get (D := D) (cl := classes) (ci := 0) (v := .ref b.1) (C := "StepMap") (T := F_M) (N := 6) hx hb ht i_M hown hk.1 hP 0 rfl rfl 2 (by decide) (ht _ mw_1_50) (fun _ h9 => h9) rfl d_M_isMigrating_5 ?_
  refine va_getN (D := D) (cl := classes) (ci := 1) (v := .int (nI oc)) (C := "StepMap$Table") (T := F_T) (N := 5) hx hb ht i_T hown hk.1 hP 5 rfl rfl 3 (by decide) (va_Nw.use rfl hk.2.2.2.2.1) (fun _ h9 => h9) rfl d_M_isMigrating_8 ?_
  refine lv_icmp_ge (tgt := 18) hx hb d_M_isMigrating_11 (by decide) (fun c1 => ?_) (fun c1 => ?_)
  · skip
    refine lv_iconst (v := 0) hx hb d_M_isMigrating_18 (by decide) ?_
    exact hret _ _ _ _ _ _ () d_M_isMigrating_19 (Or.inl rfl) hP hD hS ((if00 (fun q => nI_ge q (by omega) c1)).symm) rfl
  · skip
    refine lv_iconst (v := 1) hx hb d_M_isMigrating_14 (by decide) ?_
    refine lv_goto (tgt := 19) hx hb d_M_isMigrating_15 (by decide) ?_
    exact hret _ _ _ _ _ _ () d_M_isMigrating_19 (Or.inr rfl) hP hD hS ((if10 (Nat.lt_of_not_le fun q => c1 (nI_le q (by omega)))).symm) rfl
set_option maxHeartbeats 4000000 in
set_option maxRecDepth 100000 in
theorem c_M_begin (l : Launch) (D : va_G) (cA : ClassId) (h hf : Nat) (a b : Ad) (cur cnt fc oc : Nat) (wk fv ov : Int32) (F O : Tb)  : Mv l D [(cA, .int)] y_M_begin b_M_begin 1 0 0 0 0 [.ref h] (wM h hf a.1 b.1 a b cA (nI cur) (nI cnt) wk (nI fc) fv F (nI oc) ov O) (fun (_ : Unit) => True) (fun _ => (wM h hf a.1 b.1 a b cA (nI cur) (nI cnt) wk (nI fc) 0 F (nI oc) 0 O)) := by
  refine mv_start (own := "StepMap") (by decide +kernel) rfl (Nat.le_of_ble_eq_true rfl) ?_
  intro p e s m args below meth c ls A Q hx hb hml hin hown ht hk hP hD hA hl hret
  have hS : va_S A s.heap s.heap [] := va_S.rf
  have hl : lv_has ls 1 [(0, .ref h)] := hl
  refine lv_aload_n hx hb d_M_begin_0 rfl (lv_at hl 0 rfl) ?_
  refine va_get (D := D) (cl := classes) (ci := 0) (v := .ref a.1) (C := "StepMap") (T := F_M) (N := 6) hx hb ht i_M hown hk.1 hP 0 rfl rfl 1 (by decide) (ht _ mw_1_49) (fun _ h9 => h9) rfl d_M_begin_1 ?_
  refine lv_iconst (v := 0) hx hb d_M_begin_4 (by decide) ?_
  refine va_putN (D := D) (cl := classes) (ci := 1) (v := .int 0) (ty := .int) (C := "StepMap$Table") (T := F_T) (N := 5) hx hb ht i_T tt_T tt_T_ok n_T hown hk.1 hP hD hS 1 rfl rfl 4 (by decide) (va_Nw.use rfl hk.2.2.2.2.2.1) (fun _ h9 => h9) rfl (by decide +kernel) rfl rfl (Nat.le_of_ble_eq_true rfl) d_M_begin_5 (fun H locs hP hD hS => ?_)
  have hP : va_P D classes (wM h hf a.1 b.1 a b cA (nI cur) (nI cnt) wk (nI fc) 0 F (nI oc) ov O) H := hP
  have hD : va_D A (wM h hf a.1 b.1 a b cA (nI cur) (nI cnt) wk (nI fc) 0 F (nI oc) ov O) := hD
  refine lv_aload_n hx hb d_M_begin_8 rfl (lv_at hl 0 rfl) ?_
  refine va_get (D := D) (cl := classes) (ci := 0) (v := .ref b.1) (C := "StepMap") (T := F_M) (N := 6) hx hb ht i_M hown hk.1 hP 0 rfl rfl 2 (by decide) (ht _ mw_1_50) (fun _ h9 => h9) rfl d_M_begin_9 ?_
  refine lv_iconst (v := 0) hx hb d_M_begin_12 (by decide) ?_
  refine va_putN (D := D) (cl := classes) (ci := 1) (v := .int 0) (ty := .int) (C := "StepMap$Table") (T := F_T) (N := 5) hx hb ht i_T tt_T tt_T_ok n_T hown hk.1 hP hD hS 5 rfl rfl 4 (by decide) (va_Nw.use rfl hk.2.2.2.2.2.1) (fun _ h9 => h9) rfl (by decide +kernel) rfl rfl (Nat.le_of_ble_eq_true rfl) d_M_begin_13 (fun H locs hP hD hS => ?_)
  have hP : va_P D classes (wM h hf a.1 b.1 a b cA (nI cur) (nI cnt) wk (nI fc) 0 F (nI oc) 0 O) H := hP
  have hD : va_D A (wM h hf a.1 b.1 a b cA (nI cur) (nI cnt) wk (nI fc) 0 F (nI oc) 0 O) := hD
  exact hret _ _ _ _ _ () d_M_begin_16 hP hD hS (trivial) rfl
set_option maxHeartbeats 4000000 in
set_option maxRecDepth 100000 in
theorem c_M_end (l : Launch) (D : va_G) (cA : ClassId) (h hf : Nat) (a b : Ad) (cur cnt fc oc : Nat) (wk fv ov : Int32) (F O : Tb)  : Mv l D [(cA, .int)] y_M_end b_M_end 1 0 0 0 0 [.ref h] (wM h hf a.1 b.1 a b cA (nI cur) (nI cnt) wk (nI fc) fv F (nI oc) ov O) (fun (_ : Unit) => True) (fun _ => (wM h hf a.1 b.1 a b cA (nI cur) (nI cnt) (fv + ov) (nI fc) fv F (nI oc) ov O)) := by
  refine mv_start (own := "StepMap") (by decide +kernel) rfl (Nat.le_of_ble_eq_true rfl) ?_
  intro p e s m args below meth c ls A Q hx hb hml hin hown ht hk hP hD hA hl hret
  have hS : va_S A s.heap s.heap [] := va_S.rf
  have hl : lv_has ls 1 [(0, .ref h)] := hl
  refine lv_aload_n hx hb d_M_end_0 rfl (lv_at hl 0 rfl) ?_
  refine lv_aload_n hx hb d_M_end_1 rfl (lv_at hl 0 rfl) ?_
  refine va_get (D := D) (cl := classes) (ci := 0) (v := .ref a.1) (C := "StepMap") (T := F_M) (N := 6) hx hb ht i_M hown hk.1 hP 0 rfl rfl 1 (by decide) (ht _ mw_1_49) (fun _ h9 => h9) rfl d_M_end_2 ?_
  refine va_getN (D := D) (cl := classes) (ci := 1) (v := .int fv) (C := "StepMap$Table") (T := F_T) (N := 5) hx hb ht i_T hown hk.1 hP 1 rfl rfl 4 (by decide) (va_Nw.use rfl hk.2.2.2.2.2.1) (fun _ h9 => h9) rfl d_M_end_5 ?_
  refine lv_aload_n hx hb d_M_end_8 rfl (lv_at hl 0 rfl) ?_
  refine va_get (D := D) (cl := classes) (ci := 0) (v := .ref b.1) (C := "StepMap") (T := F_M) (N := 6) hx hb ht i_M hown hk.1 hP 0 rfl rfl 2 (by decide) (ht _ mw_1_50) (fun _ h9 => h9) rfl d_M_end_9 ?_
  refine va_getN (D := D) (cl := classes) (ci := 1) (v := .int ov) (C := "StepMap$Table") (T := F_T) (N := 5) hx hb ht i_T hown hk.1 hP 5 rfl rfl 4 (by decide) (va_Nw.use rfl hk.2.2.2.2.2.1) (fun _ h9 => h9) rfl d_M_end_12 ?_
  refine lv_iadd hx hb d_M_end_15 ?_
  refine va_put (D := D) (cl := classes) (ci := 0) (v := .int (fv + ov)) (ty := .int) (C := "StepMap") (T := F_M) (N := 6) hx hb ht i_M tt_M tt_M_ok n_M hown hk.1 hP hD hS 0 rfl rfl 5 (by decide) (ht _ mw_1_53) (fun _ h9 => h9) rfl (by decide +kernel) rfl rfl (Nat.le_of_ble_eq_true rfl) d_M_end_16 (fun H locs hP hD hS => ?_)
  have hP : va_P D classes (wM h hf a.1 b.1 a b cA (nI cur) (nI cnt) (fv + ov) (nI fc) fv F (nI oc) ov O) H := hP
  have hD : va_D A (wM h hf a.1 b.1 a b cA (nI cur) (nI cnt) (fv + ov) (nI fc) fv F (nI oc) ov O) := hD
  exact hret _ _ _ _ _ () d_M_end_19 hP hD hS (trivial) rfl
set_option maxHeartbeats 4000000 in
set_option maxRecDepth 100000 in
theorem c_M_isCrowded (l : Launch) (D : va_G) (cA : ClassId) (h hf : Nat) (a b : Ad) (cur cnt fc oc : Nat) (wk fv ov : Int32) (F O : Tb) (n : Nat) (hn : n ≤ 1025) (hfc : fc ≤ 1024) : Mi l D [(cA, .int)] y_M_isCrowded b_M_isCrowded 2 (some .boolean) 0 0 [.ref h, .int (nI n)] (wM h hf a.1 b.1 a b cA (nI cur) (nI cnt) wk (nI fc) fv F (nI oc) ov O) (fun r (_ : Unit) => r = if 3 * fc ≤ 4 * n then 1 else 0) (fun _ => (wM h hf a.1 b.1 a b cA (nI cur) (nI cnt) wk (nI fc) fv F (nI oc) ov O)) := by
  refine mz_start (own := "StepMap") (by decide +kernel) rfl (Nat.le_of_ble_eq_true rfl) ?_
  intro p e s m args below meth c ls A Q hx hb hml hown ht hk hP hD hA hl hret
  have hS : va_S A s.heap s.heap [] := va_S.rf
  have hl : lv_has ls 2 [(0, .ref h), (1, .int (nI n))] := hl
  refine lv_iconst (v := 4) hx hb d_M_isCrowded_0 (by decide) ?_
  refine lv_iload_n hx hb d_M_isCrowded_1 rfl (lv_at hl 1 rfl) ?_
  refine lv_imul hx hb d_M_isCrowded_2 ?_
  refine x_top (z := (nI (4 * n))) (mul4 n) ?_
  refine lv_iconst (v := 3) hx hb d_M_isCrowded_3 (by decide) ?_
  refine lv_aload_n hx hb d_M_isCrowded_4 rfl (lv_at hl 0 rfl) ?_
  refine va_get (D := D) (cl := classes) (ci := 0) (v := .ref a.1) (C := "StepMap") (T := F_M) (N := 6) hx hb ht i_M hown hk.1 hP 0 rfl rfl 1 (by decide) (ht _ mw_1_49) (fun _ h9 => h9) rfl d_M_isCrowded_5 ?_
  refine va_getN (D := D) (cl := classes) (ci := 1) (v := .int (nI fc)) (C := "StepMap$Table") (T := F_T) (N := 5) hx hb ht i_T hown hk.1 hP 1 rfl rfl 3 (by decide) (va_Nw.use rfl hk.2.2.2.2.1) (fun _ h9 => h9) rfl d_M_isCrowded_8 ?_
  refine lv_imul hx hb d_M_isCrowded_11 ?_
  refine x_top (z := (nI (3 * fc))) (mul3 fc) ?_
  refine lv_icmp_lt (tgt := 19) hx hb d_M_isCrowded_12 (by decide) (fun c1 => ?_) (fun c1 => ?_)
  · skip
    refine lv_iconst (v := 0) hx hb d_M_isCrowded_19 (by decide) ?_
    exact hret _ _ _ _ _ _ () d_M_isCrowded_20 (Or.inl rfl) hP hD hS ((if00 (fun q => nI_nlt q (by omega) c1)).symm) rfl
  · skip
    refine lv_iconst (v := 1) hx hb d_M_isCrowded_15 (by decide) ?_
    refine lv_goto (tgt := 20) hx hb d_M_isCrowded_16 (by decide) ?_
    exact hret _ _ _ _ _ _ () d_M_isCrowded_20 (Or.inr rfl) hP hD hS ((if10 (Nat.le_of_not_lt fun q => c1 (nI_lt q (by omega)))).symm) rfl
set_option maxHeartbeats 4000000 in
set_option maxRecDepth 100000 in
theorem c_M_migrating (l : Launch) (D : va_G) (cA : ClassId) (h hf : Nat) (a b : Ad) (cur cnt fc oc : Nat) (wk fv ov : Int32) (F O : Tb) (hcu : cur ≤ oc) (ho : oc ≤ 1024) : Mi l D [(cA, .int)] y_M_migrating b_M_migrating 1 (some .boolean) 1 20 [.ref h] (wM h hf a.1 b.1 a b cA (nI cur) (nI cnt) wk (nI fc) fv F (nI oc) ov O) (fun r (_ : Unit) => r = if cur < oc then 1 else 0) (fun _ => (wM h hf a.1 b.1 a b cA (nI cur) (nI cnt) wk (nI fc) fv F (nI oc) ov O)) := by
  refine mz_start (own := "StepMap") (by decide +kernel) rfl (Nat.le_of_ble_eq_true rfl) ?_
  intro p e s m args below meth c ls A Q hx hb hml hown ht hk hP hD hA hl hret
  have hS : va_S A s.heap s.heap [] := va_S.rf
  have hl : lv_has ls 1 [(0, .ref h)] := hl
  refine lv_aload_n hx hb d_M_migrating_0 rfl (lv_at hl 0 rfl) ?_
  refine xV_i (D := D) (k := 0) (ci := 0) (q := ("StepMap", F_M, 6)) (wr := []) (wb := fun u => (wM h hf a.1 b.1 a b cA (nI cur) (nI cnt) wk (nI fc) fv F (nI oc) ov O)) (rest := []) ⟨hx, hb, hml, hown, ht⟩ (c_M_isMigrating l D cA h hf a b cur cnt fc oc wk fv ov F O hcu ho) gv_M_47 (by decide +kernel) rfl ⟨Nat.le_of_ble_eq_true rfl, Nat.le_of_ble_eq_true rfl⟩ hk hP hD hS hA [0, 1, 2, 3, 4, 5, 6, 7, 8] [] [0, 1, 2, 3, 4, 5, 6, 7, 8] rfl rfl (fun _ => rfl) ⟨rfl, rfl, rfl⟩ (by decide) rfl rfl hl.1 rfl (Nat.le_of_ble_eq_true rfl) d_M_migrating_1 ⟨Nat.zero_le _, Nat.zero_le _⟩ (fun r u H locs hp hP hD hS => ?_)
  have hp : r = (if cur < oc then 1 else 0) := hp
  subst hp
  have hP : va_P D classes (wM h hf a.1 b.1 a b cA (nI cur) (nI cnt) wk (nI fc) fv F (nI oc) ov O) H := hP
  have hD : va_D A (wM h hf a.1 b.1 a b cA (nI cur) (nI cnt) wk (nI fc) fv F (nI oc) ov O) := hD
  have h01 : (if cur < oc then (1 : Int32) else 0) = 0 ∨ (if cur < oc then (1 : Int32) else 0) = 1 := by split; exact Or.inr rfl; exact Or.inl rfl
  exact hret _ _ _ _ _ _ () d_M_migrating_4 h01 hP hD hS (rfl) rfl
set_option maxHeartbeats 4000000 in
set_option maxRecDepth 100000 in
theorem c_M_cursor (l : Launch) (D : va_G) (cA : ClassId) (h hf : Nat) (a b : Ad) (cur cnt fc oc : Nat) (wk fv ov : Int32) (F O : Tb) (hcu : cur ≤ oc) (ho : oc ≤ 1024) : Mi l D [(cA, .int)] y_M_cursor b_M_cursor 1 (some .int) 1 20 [.ref h] (wM h hf a.1 b.1 a b cA (nI cur) (nI cnt) wk (nI fc) fv F (nI oc) ov O) (fun r (_ : Unit) => r = if cur < oc then nI cur else -1) (fun _ => (wM h hf a.1 b.1 a b cA (nI cur) (nI cnt) wk (nI fc) fv F (nI oc) ov O)) := by
  refine mi_start (own := "StepMap") (by decide +kernel) rfl (Nat.le_of_ble_eq_true rfl) ?_
  intro p e s m args below meth c ls A Q hx hb hml hown ht hk hP hD hA hl hret
  have hS : va_S A s.heap s.heap [] := va_S.rf
  have hl : lv_has ls 1 [(0, .ref h)] := hl
  refine lv_aload_n hx hb d_M_cursor_0 rfl (lv_at hl 0 rfl) ?_
  refine xV_i (D := D) (k := 0) (ci := 0) (q := ("StepMap", F_M, 6)) (wr := []) (wb := fun u => (wM h hf a.1 b.1 a b cA (nI cur) (nI cnt) wk (nI fc) fv F (nI oc) ov O)) (rest := []) ⟨hx, hb, hml, hown, ht⟩ (c_M_isMigrating l D cA h hf a b cur cnt fc oc wk fv ov F O hcu ho) gv_M_47 (by decide +kernel) rfl ⟨Nat.le_of_ble_eq_true rfl, Nat.le_of_ble_eq_true rfl⟩ hk hP hD hS hA [0, 1, 2, 3, 4, 5, 6, 7, 8] [] [0, 1, 2, 3, 4, 5, 6, 7, 8] rfl rfl (fun _ => rfl) ⟨rfl, rfl, rfl⟩ (by decide) rfl rfl hl.1 rfl (Nat.le_of_ble_eq_true rfl) d_M_cursor_1 ⟨Nat.zero_le _, Nat.zero_le _⟩ (fun r u H locs hp hP hD hS => ?_)
  have hp : r = (if cur < oc then 1 else 0) := hp
  subst hp
  have hP : va_P D classes (wM h hf a.1 b.1 a b cA (nI cur) (nI cnt) wk (nI fc) fv F (nI oc) ov O) H := hP
  have hD : va_D A (wM h hf a.1 b.1 a b cA (nI cur) (nI cnt) wk (nI fc) fv F (nI oc) ov O) := hD
  by_cases h1 : cur < oc
  · skip
    refine x_top (z := 1) (if10 h1) ?_
    refine lv_if_eq (tgt := 14) hx hb d_M_cursor_4 (by decide) (fun c9 => absurd c9 (by decide)) (fun _ => ?_)
    refine lv_aload_n hx hb d_M_cursor_7 rfl (lv_at hl 0 rfl) ?_
    refine va_get (D := D) (cl := classes) (ci := 0) (v := .int (nI cur)) (C := "StepMap") (T := F_M) (N := 6) hx hb ht i_M hown hk.1 hP 0 rfl rfl 3 (by decide) (ht _ mw_1_51) (fun _ h9 => h9) rfl d_M_cursor_8 ?_
    refine lv_goto (tgt := 15) hx hb d_M_cursor_11 (by decide) ?_
    exact hret _ _ _ _ _ _ () d_M_cursor_15 hP hD hS ((if_pos h1).symm) rfl
  · skip
    refine x_top (z := 0) (if00 h1) ?_
    refine lv_if_eq (tgt := 14) hx hb d_M_cursor_4 (by decide) (fun _ => ?_) (fun c9 => absurd (rfl) c9)
    refine lv_iconst (v := (-1)) hx hb d_M_cursor_14 (by decide) ?_
    exact hret _ _ _ _ _ _ () d_M_cursor_15 hP hD hS ((if_neg h1).symm) rfl
set_option maxHeartbeats 4000000 in
set_option maxRecDepth 100000 in
theorem c_M_findOld (l : Launch) (D : va_G) (cA : ClassId) (h hf : Nat) (a b : Ad) (cur cnt fc oc : Nat) (wk fv ov : Int32) (F O : Tb) (k : Int32) (hcu : cur ≤ oc) (ho : oc ≤ 1024) (hh : hf ≤ 1024) (hlk : cur < oc → pw oc ∧ oc ≤ hf ∧ fok oc O k) : Mi l D [(cA, .int)] y_M_findOld b_M_findOld 3 (some .int) 3 64 [.ref h, .int k] (wM h hf a.1 b.1 a b cA (nI cur) (nI cnt) wk (nI fc) fv F (nI oc) ov O) (fun r (_ : Unit) => r = if inO oc O cur k then nI (fsl oc O k) else -1) (fun _ => (wM h hf a.1 b.1 a b cA (nI cur) (nI cnt) wk (nI fc) fv F (nI oc) (ov + nI (if cur < oc then fct oc O k else 0)) O)) := by
  refine mi_start (own := "StepMap") (by decide +kernel) rfl (Nat.le_of_ble_eq_true rfl) ?_
  intro p e s m args below meth c ls A Q hx hb hml hown ht hk hP hD hA hl hret
  have hS : va_S A s.heap s.heap [] := va_S.rf
  have hl : lv_has ls 3 [(0, .ref h), (1, .int k)] := hl
  refine lv_aload_n hx hb d_M_findOld_0 rfl (lv_at hl 0 rfl) ?_
  refine xV_i (D := D) (k := 0) (ci := 0) (q := ("StepMap", F_M, 6)) (wr := []) (wb := fun u => (wM h hf a.1 b.1 a b cA (nI cur) (nI cnt) wk (nI fc) fv F (nI oc) ov O)) (rest := []) ⟨hx, hb, hml, hown, ht⟩ (c_M_isMigrating l D cA h hf a b cur cnt fc oc wk fv ov F O hcu ho) gv_M_47 (by decide +kernel) rfl ⟨Nat.le_of_ble_eq_true rfl, Nat.le_of_ble_eq_true rfl⟩ hk hP hD hS hA [0, 1, 2, 3, 4, 5, 6, 7, 8] [] [0, 1, 2, 3, 4, 5, 6, 7, 8] rfl rfl (fun _ => rfl) ⟨rfl, rfl, rfl⟩ (by decide) rfl rfl hl.1 rfl (Nat.le_of_ble_eq_true rfl) d_M_findOld_1 ⟨Nat.zero_le _, Nat.zero_le _⟩ (fun r u H locs hp hP hD hS => ?_)
  have hp : r = (if cur < oc then 1 else 0) := hp
  subst hp
  have hP : va_P D classes (wM h hf a.1 b.1 a b cA (nI cur) (nI cnt) wk (nI fc) fv F (nI oc) ov O) H := hP
  have hD : va_D A (wM h hf a.1 b.1 a b cA (nI cur) (nI cnt) wk (nI fc) fv F (nI oc) ov O) := hD
  by_cases h1 : cur < oc
  · skip
    refine x_top (z := 1) (if10 h1) ?_
    refine lv_if_ne (tgt := 9) hx hb d_M_findOld_4 (by decide) (fun _ => ?_) (fun c9 => absurd c9 (by decide))
    obtain ⟨hpo, hoh, hfo⟩ := hlk h1
    refine lv_aload_n hx hb d_M_findOld_9 rfl (lv_at hl 0 rfl) ?_
    refine va_get (D := D) (cl := classes) (ci := 0) (v := .ref b.1) (C := "StepMap") (T := F_M) (N := 6) hx hb ht i_M hown hk.1 hP 0 rfl rfl 2 (by decide) (ht _ mw_1_50) (fun _ h9 => h9) rfl d_M_findOld_10 ?_
    refine lv_iload_n hx hb d_M_findOld_13 rfl (lv_at hl 1 rfl) ?_
    refine xV_i (D := D) (k := 1) (ci := 1) (q := ("StepMap$Table", F_T, 5)) (wr := ((h, .inr (0, [.int (nI hf), .ref a.1, .ref b.1, .int (nI cur), .int (nI cnt), .int wk])) :: (wT a cA hf (nI fc) fv F))) (wb := fun u => (wM h hf a.1 b.1 a b cA (nI cur) (nI cnt) wk (nI fc) fv F (nI oc) (ov + nI (fct oc O k)) O)) (rest := []) ⟨hx, hb, hml, hown, ht⟩ (c_T_find l D cA b hf oc ov O k hpo hoh hh hfo) gv_M_51 (by decide +kernel) rfl ⟨Nat.le_of_ble_eq_true rfl, Nat.le_of_ble_eq_true rfl⟩ hk hP hD hS hA [5, 6, 7, 8] [0, 1, 2, 3, 4] [0, 1, 2, 3, 4, 5, 6, 7, 8] rfl rfl (fun _ => rfl) ⟨rfl, rfl, rfl⟩ (by decide) rfl rfl hl.1 rfl (Nat.le_of_ble_eq_true rfl) d_M_findOld_14 ⟨Nat.zero_le _, Nat.zero_le _⟩ (fun r u H locs hp hP hD hS => ?_)
    have hp : r = (nI (fsl oc O k)) := hp
    subst hp
    have hP : va_P D classes (wM h hf a.1 b.1 a b cA (nI cur) (nI cnt) wk (nI fc) fv F (nI oc) (ov + nI (fct oc O k)) O) H := hP
    have hD : va_D A (wM h hf a.1 b.1 a b cA (nI cur) (nI cnt) wk (nI fc) fv F (nI oc) (ov + nI (fct oc O k)) O) := hD
    have hsl := (fsl_spec hpo hfo).1
    refine lv_istore_n (lv' := [(2, .int (nI (fsl oc O k))), (0, .ref h), (1, .int k)]) hx hb d_M_findOld_17 rfl hl (by decide) rfl (fun ls hl => ?_)
    refine lv_aload_n hx hb d_M_findOld_18 rfl (lv_at hl 1 rfl) ?_
    refine va_get (D := D) (cl := classes) (ci := 0) (v := .ref b.1) (C := "StepMap") (T := F_M) (N := 6) hx hb ht i_M hown hk.1 hP 0 rfl rfl 2 (by decide) (ht _ mw_1_50) (fun _ h9 => h9) rfl d_M_findOld_19 ?_
    refine lv_iload_n hx hb d_M_findOld_22 rfl (lv_at hl 0 rfl) ?_
    refine xV_i (D := D) (k := 1) (ci := 1) (q := ("StepMap$Table", F_T, 5)) (wr := ((h, .inr (0, [.int (nI hf), .ref a.1, .ref b.1, .int (nI cur), .int (nI cnt), .int wk])) :: (wT a cA hf (nI fc) fv F))) (wb := fun u => (wM h hf a.1 b.1 a b cA (nI cur) (nI cnt) wk (nI fc) fv F (nI oc) (ov + nI (fct oc O k)) O)) (rest := []) ⟨hx, hb, hml, hown, ht⟩ (c_T_holds l D cA b hf oc (ov + nI (fct oc O k)) O (fsl oc O k) hh (by omega)) gv_M_55 (by decide +kernel) rfl ⟨Nat.le_of_ble_eq_true rfl, Nat.le_of_ble_eq_true rfl⟩ hk hP hD hS hA [5, 6, 7, 8] [0, 1, 2, 3, 4] [0, 1, 2, 3, 4, 5, 6, 7, 8] rfl rfl (fun _ => rfl) ⟨rfl, rfl, rfl⟩ (by decide) rfl rfl hl.1 rfl (Nat.le_of_ble_eq_true rfl) d_M_findOld_23 ⟨Nat.zero_le _, Nat.zero_le _⟩ (fun r u H locs hp hP hD hS => ?_)
    have hp : r = (if O.2.2 (fsl oc O k) = 1 then 1 else 0) := hp
    subst hp
    have hP : va_P D classes (wM h hf a.1 b.1 a b cA (nI cur) (nI cnt) wk (nI fc) fv F (nI oc) (ov + nI (fct oc O k)) O) H := hP
    have hD : va_D A (wM h hf a.1 b.1 a b cA (nI cur) (nI cnt) wk (nI fc) fv F (nI oc) (ov + nI (fct oc O k)) O) := hD
    have e1 : (if cur < oc then fct oc O k else 0) = fct oc O k := if_pos h1
    rw [← e1] at hP hD
    by_cases h2 : O.2.2 (fsl oc O k) = 1
    · skip
      refine x_top (z := 1) (if10 h2) ?_
      refine lv_if_eq (tgt := 33) hx hb d_M_findOld_26 (by decide) (fun c9 => absurd c9 (by decide)) (fun _ => ?_)
      refine lv_iload_n hx hb d_M_findOld_29 rfl (lv_at hl 0 rfl) ?_
      refine lv_goto (tgt := 34) hx hb d_M_findOld_30 (by decide) ?_
      exact hret _ _ _ _ _ _ () d_M_findOld_34 hP hD hS ((if_pos ⟨h1, h2⟩).symm) rfl
    · skip
      refine x_top (z := 0) (if00 h2) ?_
      refine lv_if_eq (tgt := 33) hx hb d_M_findOld_26 (by decide) (fun _ => ?_) (fun c9 => absurd (rfl) c9)
      refine lv_iconst (v := (-1)) hx hb d_M_findOld_33 (by decide) ?_
      exact hret _ _ _ _ _ _ () d_M_findOld_34 hP hD hS ((if_neg (fun z => h2 z.2)).symm) rfl
  · skip
    refine x_top (z := 0) (if00 h1) ?_
    refine lv_if_ne (tgt := 9) hx hb d_M_findOld_4 (by decide) (fun c9 => absurd (by decide) c9) (fun _ => ?_)
    have e1 : ov = ov + nI (if cur < oc then fct oc O k else 0) := by rw [if_neg h1, nI_0, ia0]
    have hP : va_P D classes (wM h hf a.1 b.1 a b cA (nI cur) (nI cnt) wk (nI fc) fv F (nI oc) (ov + nI (if cur < oc then fct oc O k else 0)) O) H := by rw [← e1]; exact hP
    have hD : va_D A (wM h hf a.1 b.1 a b cA (nI cur) (nI cnt) wk (nI fc) fv F (nI oc) (ov + nI (if cur < oc then fct oc O k else 0)) O) := by rw [← e1]; exact hD
    refine lv_iconst (v := (-1)) hx hb d_M_findOld_7 (by decide) ?_
    exact hret _ _ _ _ _ _ () d_M_findOld_8 hP hD hS ((if_neg (fun z => h1 z.1)).symm) rfl
set_option maxHeartbeats 4000000 in
set_option maxRecDepth 100000 in
theorem c_M_isFull (l : Launch) (D : va_G) (cA : ClassId) (h hf : Nat) (a b : Ad) (cur cnt fc oc : Nat) (wk fv ov : Int32) (F O : Tb) (hcu : cur ≤ oc) (ho : oc ≤ 1024) (hh : hf ≤ 1024) (hfc : fc ≤ 1024) (hct : cnt ≤ 1024) : Mi l D [(cA, .int)] y_M_isFull b_M_isFull 2 (some .boolean) 1 21 [.ref h] (wM h hf a.1 b.1 a b cA (nI cur) (nI cnt) wk (nI fc) fv F (nI oc) ov O) (fun r (_ : Unit) => r = if fullD hf fc oc cur cnt = true then 1 else 0) (fun _ => (wM h hf a.1 b.1 a b cA (nI cur) (nI cnt) wk (nI fc) fv F (nI oc) ov O)) := by
  refine mz_start (own := "StepMap") (by decide +kernel) rfl (Nat.le_of_ble_eq_true rfl) ?_
  intro p e s m args below meth c ls A Q hx hb hml hown ht hk hP hD hA hl hret
  have hS : va_S A s.heap s.heap [] := va_S.rf
  have hl : lv_has ls 2 [(0, .ref h)] := hl
  have no : ¬ fullD hf fc oc cur cnt = true → ∀ (H : Heap) (locs : List Loc) (ls : Array Slot), va_P D classes (wM h hf a.1 b.1 a b cA (nI cur) (nI cnt) wk (nI fc) fv F (nI oc) ov O) H → va_D A (wM h hf a.1 b.1 a b cA (nI cur) (nI cnt) wk (nI fc) fv F (nI oc) ov O) → va_S A s.heap H locs → W p l e { frames := 1, cells := 0, slots := 0, locals := 21 } s m args below meth c H locs 0 0 Q (F0 m 59 ls []) := by
    intro hno H locs ls hP hD hS
    refine lv_iconst (v := 0) hx hb d_M_isFull_59 (by decide) ?_
    exact hret _ _ _ _ _ _ () d_M_isFull_60 (Or.inl rfl) hP hD hS ((if00 hno).symm) rfl
  refine lv_aload_n hx hb d_M_isFull_0 rfl (lv_at hl 0 rfl) ?_
  refine va_get (D := D) (cl := classes) (ci := 0) (v := .ref b.1) (C := "StepMap") (T := F_M) (N := 6) hx hb ht i_M hown hk.1 hP 0 rfl rfl 2 (by decide) (ht _ mw_1_50) (fun _ h9 => h9) rfl d_M_isFull_1 ?_
  refine va_getN (D := D) (cl := classes) (ci := 1) (v := .int (nI oc)) (C := "StepMap$Table") (T := F_T) (N := 5) hx hb ht i_T hown hk.1 hP 5 rfl rfl 3 (by decide) (va_Nw.use rfl hk.2.2.2.2.1) (fun _ h9 => h9) rfl d_M_isFull_4 ?_
  refine lv_aload_n hx hb d_M_isFull_7 rfl (lv_at hl 0 rfl) ?_
  refine va_get (D := D) (cl := classes) (ci := 0) (v := .int (nI cur)) (C := "StepMap") (T := F_M) (N := 6) hx hb ht i_M hown hk.1 hP 0 rfl rfl 3 (by decide) (ht _ mw_1_51) (fun _ h9 => h9) rfl d_M_isFull_8 ?_
  refine lv_isub hx hb d_M_isFull_11 ?_
  refine x_top (z := (nI (oc - cur))) (pk_sub hcu) ?_
  refine lv_iconst (v := 4) hx hb d_M_isFull_12 (by decide) ?_
  refine lv_icmp_le (tgt := 20) hx hb d_M_isFull_13 (by decide) (fun c1 => ?_) (fun c1 => ?_)
  · skip
    have q1 : oc - cur ≤ 4 := (nI_leI (by omega) (by omega)).mp c1
    refine lv_iconst (v := 0) hx hb d_M_isFull_20 (by decide) ?_
    refine lv_istore_n (lv' := [(1, .int 0), (0, .ref h)]) hx hb d_M_isFull_21 rfl hl (by decide) rfl (fun ls hl => ?_)
    refine lv_iload_n hx hb d_M_isFull_22 rfl (lv_at hl 0 rfl) ?_
    refine lv_if_ne (tgt := 59) hx hb d_M_isFull_23 (by decide) (fun c9 => absurd (rfl) c9) (fun _ => ?_)
    refine lv_aload_n hx hb d_M_isFull_26 rfl (lv_at hl 1 rfl) ?_
    refine lv_aload_n hx hb d_M_isFull_27 rfl (lv_at hl 1 rfl) ?_
    refine va_get (D := D) (cl := classes) (ci := 0) (v := .int (nI cnt)) (C := "StepMap") (T := F_M) (N := 6) hx hb ht i_M hown hk.1 hP 0 rfl rfl 4 (by decide) (ht _ mw_1_52) (fun _ h9 => h9) rfl d_M_isFull_28 ?_
    refine lv_iconst (v := 1) hx hb d_M_isFull_31 (by decide) ?_
    refine lv_iadd hx hb d_M_isFull_32 ?_
    refine x_top (z := (nI (cnt + 1))) (nI_1 cnt) ?_
    refine xV_i (D := D) (k := 1) (ci := 0) (q := ("StepMap", F_M, 6)) (wr := []) (wb := fun u => (wM h hf a.1 b.1 a b cA (nI cur) (nI cnt) wk (nI fc) fv F (nI oc) ov O)) (rest := []) ⟨hx, hb, hml, hown, ht⟩ (c_M_isCrowded l D cA h hf a b cur cnt fc oc wk fv ov F O (cnt + 1) (by omega) hfc) gv_M_79 (by decide +kernel) rfl ⟨Nat.le_of_ble_eq_true rfl, Nat.le_of_ble_eq_true rfl⟩ hk hP hD hS hA [0, 1, 2, 3, 4, 5, 6, 7, 8] [] [0, 1, 2, 3, 4, 5, 6, 7, 8] rfl rfl (fun _ => rfl) ⟨rfl, rfl, rfl⟩ (by decide) rfl rfl hl.1 rfl (Nat.le_of_ble_eq_true rfl) d_M_isFull_33 ⟨Nat.zero_le _, Nat.zero_le _⟩ (fun r u H locs hp hP hD hS => ?_)
    have hp : r = (if 3 * fc ≤ 4 * (cnt + 1) then 1 else 0) := hp
    subst hp
    have hP : va_P D classes (wM h hf a.1 b.1 a b cA (nI cur) (nI cnt) wk (nI fc) fv F (nI oc) ov O) H := hP
    have hD : va_D A (wM h hf a.1 b.1 a b cA (nI cur) (nI cnt) wk (nI fc) fv F (nI oc) ov O) := hD
    by_cases h2 : 3 * fc ≤ 4 * (cnt + 1)
    · skip
      refine x_top (z := 1) (if10 h2) ?_
      refine lv_if_eq (tgt := 59) hx hb d_M_isFull_36 (by decide) (fun c9 => absurd c9 (by decide)) (fun _ => ?_)
      refine lv_iconst (v := 2) hx hb d_M_isFull_39 (by decide) ?_
      refine lv_aload_n hx hb d_M_isFull_40 rfl (lv_at hl 1 rfl) ?_
      refine va_get (D := D) (cl := classes) (ci := 0) (v := .ref a.1) (C := "StepMap") (T := F_M) (N := 6) hx hb ht i_M hown hk.1 hP 0 rfl rfl 1 (by decide) (ht _ mw_1_49) (fun _ h9 => h9) rfl d_M_isFull_41 ?_
      refine va_getN (D := D) (cl := classes) (ci := 1) (v := .int (nI fc)) (C := "StepMap$Table") (T := F_T) (N := 5) hx hb ht i_T hown hk.1 hP 1 rfl rfl 3 (by decide) (va_Nw.use rfl hk.2.2.2.2.1) (fun _ h9 => h9) rfl d_M_isFull_44 ?_
      refine lv_imul hx hb d_M_isFull_47 ?_
      refine x_top (z := (nI (2 * fc))) (mul2 fc) ?_
      refine lv_aload_n hx hb d_M_isFull_48 rfl (lv_at hl 1 rfl) ?_
      refine va_get (D := D) (cl := classes) (ci := 0) (v := .int (nI hf)) (C := "StepMap") (T := F_M) (N := 6) hx hb ht i_M hown hk.1 hP 0 rfl rfl 0 (by decide) (ht _ mw_1_48) (fun _ h9 => h9) rfl d_M_isFull_49 ?_
      refine lv_icmp_le (tgt := 59) hx hb d_M_isFull_52 (by decide) (fun c2 => ?_) (fun c2 => ?_)
      · skip
        have q2 := (nI_leI (by omega) (by omega)).mp c2
        exact no (by simp only [fullD, Bool.and_eq_true, decide_eq_true_eq]; omega) _ _ _ hP hD hS
      · skip
        have q2 : hf < 2 * fc := Nat.lt_of_not_le fun q => c2 (nI_le q (by omega))
        refine lv_iconst (v := 1) hx hb d_M_isFull_55 (by decide) ?_
        refine lv_goto (tgt := 60) hx hb d_M_isFull_56 (by decide) ?_
        exact hret _ _ _ _ _ _ () d_M_isFull_60 (Or.inr rfl) hP hD hS ((if10 (by simp only [fullD, Bool.and_eq_true, decide_eq_true_eq]; omega)).symm) rfl
    · skip
      refine x_top (z := 0) (if00 h2) ?_
      refine lv_if_eq (tgt := 59) hx hb d_M_isFull_36 (by decide) (fun _ => ?_) (fun c9 => absurd (rfl) c9)
      exact no (by simp only [fullD, Bool.and_eq_true, decide_eq_true_eq]; omega) _ _ _ hP hD hS
  · skip
    have q1 : 4 < oc - cur := Nat.lt_of_not_le fun q => c1 (nI_le q (by decide))
    refine lv_iconst (v := 1) hx hb d_M_isFull_16 (by decide) ?_
    refine lv_goto (tgt := 21) hx hb d_M_isFull_17 (by decide) ?_
    refine lv_istore_n (lv' := [(1, .int 1), (0, .ref h)]) hx hb d_M_isFull_21 rfl hl (by decide) rfl (fun ls hl => ?_)
    refine lv_iload_n hx hb d_M_isFull_22 rfl (lv_at hl 0 rfl) ?_
    refine lv_if_ne (tgt := 59) hx hb d_M_isFull_23 (by decide) (fun _ => ?_) (fun c9 => absurd c9 (by decide))
    exact no (by simp only [fullD, Bool.and_eq_true, decide_eq_true_eq]; omega) _ _ _ hP hD hS
set_option maxHeartbeats 4000000 in
set_option maxRecDepth 100000 in
theorem c_M_change (l : Launch) (D : va_G) (cA : ClassId) (h hf : Nat) (a b : Ad) (cur cnt fc oc : Nat) (wk fv ov : Int32) (F O : Tb) (z : Nat) (hh : hf ≤ 1024) (hz : z ≤ hf) : Mv l D [(cA, .int)] y_M_change b_M_change 3 1 22 0 0 [.ref h, .int (nI z)] (wM h hf a.1 b.1 a b cA (nI cur) (nI cnt) wk (nI fc) fv F (nI oc) ov O) (fun (_ : Unit) => True) (fun _ => (wM h hf b.1 a.1 b a cA 0 (nI cnt) wk (nI z) ov (O.1, O.2.1, clr O.2.2 z) (nI fc) fv F)) := by
  refine mv_start (own := "StepMap") (by decide +kernel) rfl (Nat.le_of_ble_eq_true rfl) ?_
  intro p e s m args below meth c ls A Q hx hb hml hin hown ht hk hP hD hA hl hret
  have hS : va_S A s.heap s.heap [] := va_S.rf
  have hl : lv_has ls 3 [(0, .ref h), (1, .int (nI z))] := hl
  refine lv_aload_n hx hb d_M_change_0 rfl (lv_at hl 0 rfl) ?_
  refine va_get (D := D) (cl := classes) (ci := 0) (v := .ref b.1) (C := "StepMap") (T := F_M) (N := 6) hx hb ht i_M hown hk.1 hP 0 rfl rfl 2 (by decide) (ht _ mw_1_50) (fun _ h9 => h9) rfl d_M_change_1 ?_
  refine lv_astore_n (lv' := [(2, .ref b.1), (0, .ref h), (1, .int (nI z))]) hx hb d_M_change_4 rfl hl (by decide) rfl (fun ls hl => ?_)
  refine lv_aload_n hx hb d_M_change_5 rfl (lv_at hl 1 rfl) ?_
  refine lv_aload_n hx hb d_M_change_6 rfl (lv_at hl 1 rfl) ?_
  refine va_get (D := D) (cl := classes) (ci := 0) (v := .ref a.1) (C := "StepMap") (T := F_M) (N := 6) hx hb ht i_M hown hk.1 hP 0 rfl rfl 1 (by decide) (ht _ mw_1_49) (fun _ h9 => h9) rfl d_M_change_7 ?_
  refine va_put (D := D) (cl := classes) (ci := 0) (v := .ref a.1) (ty := .object "StepMap$Table") (C := "StepMap") (T := F_M) (N := 6) hx hb ht i_M tt_M tt_M_ok n_M hown hk.1 hP hD hS 0 rfl rfl 2 (by decide) (ht _ mw_1_50) (fun _ h9 => h9) rfl (by decide +kernel) rfl rfl (Nat.le_of_ble_eq_true rfl) d_M_change_10 (fun H locs hP hD hS => ?_)
  have hP : va_P D classes (wM h hf a.1 a.1 a b cA (nI cur) (nI cnt) wk (nI fc) fv F (nI oc) ov O) H := hP
  have hD : va_D A (wM h hf a.1 a.1 a b cA (nI cur) (nI cnt) wk (nI fc) fv F (nI oc) ov O) := hD
  refine lv_aload_n hx hb d_M_change_13 rfl (lv_at hl 1 rfl) ?_
  refine lv_aload_n hx hb d_M_change_14 rfl (lv_at hl 0 rfl) ?_
  refine va_put (D := D) (cl := classes) (ci := 0) (v := .ref b.1) (ty := .object "StepMap$Table") (C := "StepMap") (T := F_M) (N := 6) hx hb ht i_M tt_M tt_M_ok n_M hown hk.1 hP hD hS 0 rfl rfl 1 (by decide) (ht _ mw_1_49) (fun _ h9 => h9) rfl (by decide +kernel) rfl rfl (Nat.le_of_ble_eq_true rfl) d_M_change_15 (fun H locs hP hD hS => ?_)
  have hP : va_P D classes (wM h hf b.1 a.1 a b cA (nI cur) (nI cnt) wk (nI fc) fv F (nI oc) ov O) H := hP
  have hD : va_D A (wM h hf b.1 a.1 a b cA (nI cur) (nI cnt) wk (nI fc) fv F (nI oc) ov O) := hD
  refine lv_aload_n hx hb d_M_change_18 rfl (lv_at hl 1 rfl) ?_
  refine va_get (D := D) (cl := classes) (ci := 0) (v := .ref b.1) (C := "StepMap") (T := F_M) (N := 6) hx hb ht i_M hown hk.1 hP 0 rfl rfl 1 (by decide) (ht _ mw_1_49) (fun _ h9 => h9) rfl d_M_change_19 ?_
  refine lv_iload_n hx hb d_M_change_22 rfl (lv_at hl 2 rfl) ?_
  refine xV_v (D := D) (k := 1) (ci := 1) (q := ("StepMap$Table", F_T, 5)) (wr := ((h, .inr (0, [.int (nI hf), .ref b.1, .ref a.1, .int (nI cur), .int (nI cnt), .int wk])) :: (wT a cA hf (nI fc) fv F))) (wb := fun u => (wM h hf b.1 a.1 a b cA (nI cur) (nI cnt) wk (nI fc) fv F (nI z) ov (O.1, O.2.1, (clr O.2.2 z)))) (rest := []) ⟨hx, hb, hml, hown, ht⟩ (c_T_clear l D cA b hf 0 ov O (nI oc) z hh hz) gv_M_32 (by decide +kernel) rfl ⟨Nat.le_of_ble_eq_true rfl, Nat.le_of_ble_eq_true rfl⟩ hk hP hD hS hA [5, 6, 7, 8] [0, 1, 2, 3, 4] [0, 1, 2, 3, 4, 5, 6, 7, 8] rfl rfl (fun _ => rfl) ⟨rfl, rfl, rfl⟩ (by decide) rfl rfl hl.1 rfl (Nat.le_of_ble_eq_true rfl) d_M_change_23 ⟨Nat.zero_le _, Nat.zero_le _⟩ (fun u H locs hp hP hD hS => ?_)
  have hP : va_P D classes (wM h hf b.1 a.1 a b cA (nI cur) (nI cnt) wk (nI fc) fv F (nI z) ov (O.1, O.2.1, (clr O.2.2 z))) H := hP
  have hD : va_D A (wM h hf b.1 a.1 a b cA (nI cur) (nI cnt) wk (nI fc) fv F (nI z) ov (O.1, O.2.1, (clr O.2.2 z))) := hD
  refine lv_aload_n hx hb d_M_change_26 rfl (lv_at hl 1 rfl) ?_
  refine lv_iconst (v := 0) hx hb d_M_change_27 (by decide) ?_
  refine va_put (D := D) (cl := classes) (ci := 0) (v := .int 0) (ty := .int) (C := "StepMap") (T := F_M) (N := 6) hx hb ht i_M tt_M tt_M_ok n_M hown hk.1 hP hD hS 0 rfl rfl 3 (by decide) (ht _ mw_1_51) (fun _ h9 => h9) rfl (by decide +kernel) rfl rfl (Nat.le_of_ble_eq_true rfl) d_M_change_28 (fun H locs hP hD hS => ?_)
  have hP : va_P D classes (wM h hf b.1 a.1 a b cA 0 (nI cnt) wk (nI fc) fv F (nI z) ov (O.1, O.2.1, (clr O.2.2 z))) H := hP
  have hD : va_D A (wM h hf b.1 a.1 a b cA 0 (nI cnt) wk (nI fc) fv F (nI z) ov (O.1, O.2.1, (clr O.2.2 z))) := hD
  have hP : va_P D classes (wM h hf b.1 a.1 b a cA 0 (nI cnt) wk (nI z) ov (O.1, O.2.1, clr O.2.2 z) (nI fc) fv F) H := hP.sub [0, 5, 6, 7, 8, 1, 2, 3, 4] rfl
  have hD : va_D A (wM h hf b.1 a.1 b a cA 0 (nI cnt) wk (nI z) ov (O.1, O.2.1, clr O.2.2 z) (nI fc) fv F) := hD.sub [0, 5, 6, 7, 8, 1, 2, 3, 4] (by decide) rfl
  exact hret _ _ _ _ _ () d_M_change_31 hP hD hS (trivial) rfl
end
section
theorem SI.bounds {hf fc : Nat} {F : Tb} {oc : Nat} {O : Tb} {cur cnt : Nat} (h : SI hf fc F oc O cur cnt) : hf ≤ 1024 ∧ fc ≤ hf ∧ 8 ≤ fc ∧ cur ≤ oc ∧ oc ≤ hf ∧ cnt ≤ 1024 := by
  obtain ⟨h1, h2, h3, h4, h5, h6, h7⟩ := h
  have := h1.le
  have := h2.ge
  have := h2.le
  rcases h7 with ⟨g1, g2, g3, g4, g5⟩ | ⟨g1, g2, g3, g4, g5, g6, g7⟩
  · refine ⟨by omega, by omega, by omega, by omega, by omega, by omega⟩
  · refine ⟨by omega, by omega, by omega, by omega, by omega, by omega⟩
set_option maxHeartbeats 4000000 in
set_option maxRecDepth 100000 in
theorem c_M_moveOn (l : Launch) (D : va_G) (cA : ClassId) (h hf : Nat) (a b : Ad) (cur cnt fc oc : Nat) (wk fv ov : Int32) (F O : Tb) (hcu : cur < oc) (ho : oc ≤ hf) (hh : hf ≤ 1024) (hpf : pw fc) (hfh : fc ≤ hf) (hok : mok fc (mvc oc cur) cur F O) : Mv l D [(cA, .int)] y_M_moveOn b_M_moveOn 3 3 64 0 0 [.ref h] (wM h hf a.1 b.1 a b cA (nI cur) (nI cnt) wk (nI fc) fv F (nI oc) ov O) (fun (_ : Unit) => True) (fun _ => (wM h hf a.1 b.1 a b cA (nI (mcu oc cur)) (nI cnt) wk (nI fc) (fv + nI (mvn fc (mvc oc cur) cur F O).2.2) (mvn fc (mvc oc cur) cur F O).1 (nI (moc oc cur)) (ov + nI (mvc oc cur)) (mvn fc (mvc oc cur) cur F O).2.1)) := by
  refine mv_start (own := "StepMap") (by decide +kernel) rfl (Nat.le_of_ble_eq_true rfl) ?_
  intro p e s m args below meth cd ls A Q hx hb hml hin hown ht hk hP hD hA hl hret
  have hS : va_S A s.heap s.heap [] := va_S.rf
  have hl : lv_has ls 3 [(0, .ref h)] := hl
  have hstop : cur + mvc oc cur ≤ oc := by unfold mvc; omega
  have fin : ∀ (H : Heap) (locs : List Loc) (ls : Array Slot), va_P D classes (wM h hf a.1 b.1 a b cA (nI (cur + mvc oc cur)) (nI cnt) wk (nI fc) (fv + nI (mvn fc (mvc oc cur) cur F O).2.2) (mvn fc (mvc oc cur) cur F O).1 (nI oc) (ov + nI (mvc oc cur)) (mvn fc (mvc oc cur) cur F O).2.1) H → va_D A (wM h hf a.1 b.1 a b cA (nI (cur + mvc oc cur)) (nI cnt) wk (nI fc) (fv + nI (mvn fc (mvc oc cur) cur F O).2.2) (mvn fc (mvc oc cur) cur F O).1 (nI oc) (ov + nI (mvc oc cur)) (mvn fc (mvc oc cur) cur F O).2.1) → va_S A s.heap H locs → lv_has ls 3 [(0, .ref h)] → W p l e { frames := 3, cells := 0, slots := 0, locals := 64 } s m args below meth cd H locs 0 0 Q (F0 m 130 ls []) := by
    intro H locs ls hP hD hS hl
    refine lv_aload_n hx hb d_M_moveOn_130 rfl (lv_at hl 0 rfl) ?_
    refine va_get (D := D) (cl := classes) (ci := 0) (v := .int (nI (cur + mvc oc cur))) (C := "StepMap") (T := F_M) (N := 6) hx hb ht i_M hown hk.1 hP 0 rfl rfl 3 (by decide) (ht _ mw_1_51) (fun _ h9 => h9) rfl d_M_moveOn_131 ?_
    refine lv_aload_n hx hb d_M_moveOn_134 rfl (lv_at hl 0 rfl) ?_
    refine va_get (D := D) (cl := classes) (ci := 0) (v := .ref b.1) (C := "StepMap") (T := F_M) (N := 6) hx hb ht i_M hown hk.1 hP 0 rfl rfl 2 (by decide) (ht _ mw_1_50) (fun _ h9 => h9) rfl d_M_moveOn_135 ?_
    refine va_getN (D := D) (cl := classes) (ci := 1) (v := .int (nI oc)) (C := "StepMap$Table") (T := F_T) (N := 5) hx hb ht i_T hown hk.1 hP 5 rfl rfl 3 (by decide) (va_Nw.use rfl hk.2.2.2.2.1) (fun _ h9 => h9) rfl d_M_moveOn_138 ?_
    refine lv_icmp_ne (tgt := 157) hx hb d_M_moveOn_141 (by decide) (fun c1 => ?_) (fun c1 => ?_)
    · skip
      have q1 : cur + mvc oc cur < oc := by
        rcases Nat.lt_or_ge (cur + mvc oc cur) oc with z | z
        · exact z
        · exact absurd (by rw [show cur + mvc oc cur = oc by omega]) c1
      have e1 : moc oc cur = oc := if_pos q1
      have e2 : mcu oc cur = cur + mvc oc cur := if_pos q1
      rw [← e2] at hP hD
      have hP : va_P D classes (wM h hf a.1 b.1 a b cA (nI (mcu oc cur)) (nI cnt) wk (nI fc) (fv + nI (mvn fc (mvc oc cur) cur F O).2.2) (mvn fc (mvc oc cur) cur F O).1 (nI (moc oc cur)) (ov + nI (mvc oc cur)) (mvn fc (mvc oc cur) cur F O).2.1) H := by rw [e1]; exact hP
      have hD : va_D A (wM h hf a.1 b.1 a b cA (nI (mcu oc cur)) (nI cnt) wk (nI fc) (fv + nI (mvn fc (mvc oc cur) cur F O).2.2) (mvn fc (mvc oc cur) cur F O).1 (nI (moc oc cur)) (ov + nI (mvc oc cur)) (mvn fc (mvc oc cur) cur F O).2.1) := by rw [e1]; exact hD
      exact hret _ _ _ _ _ () d_M_moveOn_157 hP hD hS (trivial) rfl
    · skip
      have q1 : ¬ cur + mvc oc cur < oc := by
        have := (nI_eq (by omega) (by omega)).mp c1
        omega
      have e1 : moc oc cur = 0 := if_neg q1
      have e2 : mcu oc cur = 0 := if_neg q1
      refine lv_aload_n hx hb d_M_moveOn_144 rfl (lv_at hl 0 rfl) ?_
      refine va_get (D := D) (cl := classes) (ci := 0) (v := .ref b.1) (C := "StepMap") (T := F_M) (N := 6) hx hb ht i_M hown hk.1 hP 0 rfl rfl 2 (by decide) (ht _ mw_1_50) (fun _ h9 => h9) rfl d_M_moveOn_145 ?_
      refine lv_iconst (v := 0) hx hb d_M_moveOn_148 (by decide) ?_
      refine va_putN (D := D) (cl := classes) (ci := 1) (v := .int 0) (ty := .int) (C := "StepMap$Table") (T := F_T) (N := 5) hx hb ht i_T tt_T tt_T_ok n_T hown hk.1 hP hD hS 5 rfl rfl 3 (by decide) (va_Nw.use rfl hk.2.2.2.2.1) (fun _ h9 => h9) rfl (by decide +kernel) rfl rfl (Nat.le_of_ble_eq_true rfl) d_M_moveOn_149 (fun H locs hP hD hS => ?_)
      have hP : va_P D classes (wM h hf a.1 b.1 a b cA (nI (cur + mvc oc cur)) (nI cnt) wk (nI fc) (fv + nI (mvn fc (mvc oc cur) cur F O).2.2) (mvn fc (mvc oc cur) cur F O).1 0 (ov + nI (mvc oc cur)) (mvn fc (mvc oc cur) cur F O).2.1) H := hP
      have hD : va_D A (wM h hf a.1 b.1 a b cA (nI (cur + mvc oc cur)) (nI cnt) wk (nI fc) (fv + nI (mvn fc (mvc oc cur) cur F O).2.2) (mvn fc (mvc oc cur) cur F O).1 0 (ov + nI (mvc oc cur)) (mvn fc (mvc oc cur) cur F O).2.1) := hD
      refine lv_aload_n hx hb d_M_moveOn_152 rfl (lv_at hl 0 rfl) ?_
      refine lv_iconst (v := 0) hx hb d_M_moveOn_153 (by decide) ?_
      refine va_put (D := D) (cl := classes) (ci := 0) (v := .int 0) (ty := .int) (C := "StepMap") (T := F_M) (N := 6) hx hb ht i_M tt_M tt_M_ok n_M hown hk.1 hP hD hS 0 rfl rfl 3 (by decide) (ht _ mw_1_51) (fun _ h9 => h9) rfl (by decide +kernel) rfl rfl (Nat.le_of_ble_eq_true rfl) d_M_moveOn_154 (fun H locs hP hD hS => ?_)
      have hP : va_P D classes (wM h hf a.1 b.1 a b cA 0 (nI cnt) wk (nI fc) (fv + nI (mvn fc (mvc oc cur) cur F O).2.2) (mvn fc (mvc oc cur) cur F O).1 0 (ov + nI (mvc oc cur)) (mvn fc (mvc oc cur) cur F O).2.1) H := hP
      have hD : va_D A (wM h hf a.1 b.1 a b cA 0 (nI cnt) wk (nI fc) (fv + nI (mvn fc (mvc oc cur) cur F O).2.2) (mvn fc (mvc oc cur) cur F O).1 0 (ov + nI (mvc oc cur)) (mvn fc (mvc oc cur) cur F O).2.1) := hD
      have hP : va_P D classes (wM h hf a.1 b.1 a b cA (nI (mcu oc cur)) (nI cnt) wk (nI fc) (fv + nI (mvn fc (mvc oc cur) cur F O).2.2) (mvn fc (mvc oc cur) cur F O).1 (nI (moc oc cur)) (ov + nI (mvc oc cur)) (mvn fc (mvc oc cur) cur F O).2.1) H := by rw [e1, e2]; exact hP
      have hD : va_D A (wM h hf a.1 b.1 a b cA (nI (mcu oc cur)) (nI cnt) wk (nI fc) (fv + nI (mvn fc (mvc oc cur) cur F O).2.2) (mvn fc (mvc oc cur) cur F O).1 (nI (moc oc cur)) (ov + nI (mvc oc cur)) (mvn fc (mvc oc cur) cur F O).2.1) := by rw [e1, e2]; exact hD
      exact hret _ _ _ _ _ () d_M_moveOn_157 hP hD hS (trivial) rfl
  have loop : ∀ (f c : Nat) (F1 O1 : Tb) (v1 v2 : Int32) (H : Heap) (locs : List Loc) (ls : Array Slot), c + f = cur + mvc oc cur → mok fc f c F1 O1 → va_P D classes (wM h hf a.1 b.1 a b cA (nI c) (nI cnt) wk (nI fc) v1 F1 (nI oc) v2 O1) H → va_D A (wM h hf a.1 b.1 a b cA (nI c) (nI cnt) wk (nI fc) v1 F1 (nI oc) v2 O1) → va_S A s.heap H locs → lv_has ls 3 [(1, .int (nI (cur + mvc oc cur))), (0, .ref h)] → (mvn fc f c F1 O1).1 = (mvn fc (mvc oc cur) cur F O).1 → (mvn fc f c F1 O1).2.1 = (mvn fc (mvc oc cur) cur F O).2.1 → v1 + nI (mvn fc f c F1 O1).2.2 = fv + nI (mvn fc (mvc oc cur) cur F O).2.2 → v2 + nI f = ov + nI (mvc oc cur) → W p l e { frames := 3, cells := 0, slots := 0, locals := 64 } s m args below meth cd H locs 0 0 Q (F0 m 17 ls []) := by
    intro f
    induction f with
    | zero =>
      intro c F1 O1 v1 v2 H locs ls hc hm hP hD hS hl e1 e2 e3 e4
      refine lv_aload_n hx hb d_M_moveOn_17 rfl (lv_at hl 1 rfl) ?_
      refine va_get (D := D) (cl := classes) (ci := 0) (v := .int (nI c)) (C := "StepMap") (T := F_M) (N := 6) hx hb ht i_M hown hk.1 hP 0 rfl rfl 3 (by decide) (ht _ mw_1_51) (fun _ h9 => h9) rfl d_M_moveOn_18 ?_
      refine lv_iload_n hx hb d_M_moveOn_21 rfl (lv_at hl 0 rfl) ?_
      refine lv_icmp_ge (tgt := 130) hx hb d_M_moveOn_22 (by decide) (fun _ => ?_) (fun c9 => absurd (nI_le (by omega) (by omega)) c9)
      have e1 : F1 = _ := e1
      have e2 : O1 = _ := e2
      have e3 : v1 = fv + nI (mvn fc (mvc oc cur) cur F O).2.2 := by rw [← e3]; show v1 = v1 + nI 0; rw [nI_0, ia0]
      have e4 : v2 = ov + nI (mvc oc cur) := by rw [← e4, nI_0, ia0]
      have ec : c = cur + mvc oc cur := by omega
      rw [e1, e2, e3, e4, ec] at hP hD
      exact fin _ _ _ hP hD hS (lv_sub hl [1] rfl)
    | succ f ih =>
      intro c F1 O1 v1 v2 H locs ls hc hm hP hD hS hl e1 e2 e3 e4
      obtain ⟨hm1, hm2⟩ := hm
      refine lv_aload_n hx hb d_M_moveOn_17 rfl (lv_at hl 1 rfl) ?_
      refine va_get (D := D) (cl := classes) (ci := 0) (v := .int (nI c)) (C := "StepMap") (T := F_M) (N := 6) hx hb ht i_M hown hk.1 hP 0 rfl rfl 3 (by decide) (ht _ mw_1_51) (fun _ h9 => h9) rfl d_M_moveOn_18 ?_
      refine lv_iload_n hx hb d_M_moveOn_21 rfl (lv_at hl 0 rfl) ?_
      refine lv_icmp_ge (tgt := 130) hx hb d_M_moveOn_22 (by decide) (fun c9 => absurd c9 (nI_ge (by omega) (by omega))) (fun _ => ?_)
      refine lv_aload_n hx hb d_M_moveOn_25 rfl (lv_at hl 1 rfl) ?_
      refine va_get (D := D) (cl := classes) (ci := 0) (v := .ref b.1) (C := "StepMap") (T := F_M) (N := 6) hx hb ht i_M hown hk.1 hP 0 rfl rfl 2 (by decide) (ht _ mw_1_50) (fun _ h9 => h9) rfl d_M_moveOn_26 ?_
      refine lv_dup hx hb d_M_moveOn_29 rfl ?_
      refine va_getN (D := D) (cl := classes) (ci := 1) (v := .int v2) (C := "StepMap$Table") (T := F_T) (N := 5) hx hb ht i_T hown hk.1 hP 5 rfl rfl 4 (by decide) (va_Nw.use rfl hk.2.2.2.2.2.1) (fun _ h9 => h9) rfl d_M_moveOn_30 ?_
      refine lv_iconst (v := 1) hx hb d_M_moveOn_33 (by decide) ?_
      refine lv_iadd hx hb d_M_moveOn_34 ?_
      refine va_putN (D := D) (cl := classes) (ci := 1) (v := .int (v2 + 1)) (ty := .int) (C := "StepMap$Table") (T := F_T) (N := 5) hx hb ht i_T tt_T tt_T_ok n_T hown hk.1 hP hD hS 5 rfl rfl 4 (by decide) (va_Nw.use rfl hk.2.2.2.2.2.1) (fun _ h9 => h9) rfl (by decide +kernel) rfl rfl (Nat.le_of_ble_eq_true rfl) d_M_moveOn_35 (fun H locs hP hD hS => ?_)
      have hP : va_P D classes (wM h hf a.1 b.1 a b cA (nI c) (nI cnt) wk (nI fc) v1 F1 (nI oc) (v2 + 1) O1) H := hP
      have hD : va_D A (wM h hf a.1 b.1 a b cA (nI c) (nI cnt) wk (nI fc) v1 F1 (nI oc) (v2 + 1) O1) := hD
      refine lv_aload_n hx hb d_M_moveOn_38 rfl (lv_at hl 1 rfl) ?_
      refine va_get (D := D) (cl := classes) (ci := 0) (v := .ref b.1) (C := "StepMap") (T := F_M) (N := 6) hx hb ht i_M hown hk.1 hP 0 rfl rfl 2 (by decide) (ht _ mw_1_50) (fun _ h9 => h9) rfl d_M_moveOn_39 ?_
      refine lv_aload_n hx hb d_M_moveOn_42 rfl (lv_at hl 1 rfl) ?_
      refine va_get (D := D) (cl := classes) (ci := 0) (v := .int (nI c)) (C := "StepMap") (T := F_M) (N := 6) hx hb ht i_M hown hk.1 hP 0 rfl rfl 3 (by decide) (ht _ mw_1_51) (fun _ h9 => h9) rfl d_M_moveOn_43 ?_
      refine xV_i (D := D) (k := 1) (ci := 1) (q := ("StepMap$Table", F_T, 5)) (wr := ((h, .inr (0, [.int (nI hf), .ref a.1, .ref b.1, .int (nI c), .int (nI cnt), .int wk])) :: (wT a cA hf (nI fc) v1 F1))) (wb := fun u => (wM h hf a.1 b.1 a b cA (nI c) (nI cnt) wk (nI fc) v1 F1 (nI oc) (v2 + 1) O1)) (rest := []) ⟨hx, hb, hml, hown, ht⟩ (c_T_holds l D cA b hf oc (v2 + 1) O1 c hh (by omega)) gv_M_55 (by decide +kernel) rfl ⟨Nat.le_of_ble_eq_true rfl, Nat.le_of_ble_eq_true rfl⟩ hk hP hD hS hA [5, 6, 7, 8] [0, 1, 2, 3, 4] [0, 1, 2, 3, 4, 5, 6, 7, 8] rfl rfl (fun _ => rfl) ⟨rfl, rfl, rfl⟩ (by decide) rfl rfl hl.1 rfl (Nat.le_of_ble_eq_true rfl) d_M_moveOn_46 ⟨Nat.zero_le _, Nat.zero_le _⟩ (fun r u H locs hp hP hD hS => ?_)
      have hp : r = (if O1.2.2 c = 1 then 1 else 0) := hp
      subst hp
      have hP : va_P D classes (wM h hf a.1 b.1 a b cA (nI c) (nI cnt) wk (nI fc) v1 F1 (nI oc) (v2 + 1) O1) H := hP
      have hD : va_D A (wM h hf a.1 b.1 a b cA (nI c) (nI cnt) wk (nI fc) v1 F1 (nI oc) (v2 + 1) O1) := hD
      by_cases h1 : O1.2.2 c = 1
      · skip
        refine x_top (z := 1) (if10 h1) ?_
        refine lv_if_eq (tgt := 117) hx hb d_M_moveOn_49 (by decide) (fun c9 => absurd c9 (by decide)) (fun _ => ?_)
        obtain ⟨hfo, hz0⟩ := hm1 h1
        have hsl := (fsl_spec hpf hfo).1
        refine lv_aload_n hx hb d_M_moveOn_52 rfl (lv_at hl 1 rfl) ?_
        refine va_get (D := D) (cl := classes) (ci := 0) (v := .ref a.1) (C := "StepMap") (T := F_M) (N := 6) hx hb ht i_M hown hk.1 hP 0 rfl rfl 1 (by decide) (ht _ mw_1_49) (fun _ h9 => h9) rfl d_M_moveOn_53 ?_
        refine lv_aload_n hx hb d_M_moveOn_56 rfl (lv_at hl 1 rfl) ?_
        refine va_get (D := D) (cl := classes) (ci := 0) (v := .ref b.1) (C := "StepMap") (T := F_M) (N := 6) hx hb ht i_M hown hk.1 hP 0 rfl rfl 2 (by decide) (ht _ mw_1_50) (fun _ h9 => h9) rfl d_M_moveOn_57 ?_
        refine va_getN (D := D) (cl := classes) (ci := 1) (v := .ref b.2.1) (C := "StepMap$Table") (T := F_T) (N := 5) hx hb ht i_T hown hk.1 hP 5 rfl rfl 0 (by decide) (va_Nw.use rfl hk.2.1) (fun _ h9 => h9) rfl d_M_moveOn_60 ?_
        refine lv_aload_n hx hb d_M_moveOn_63 rfl (lv_at hl 1 rfl) ?_
        refine va_get (D := D) (cl := classes) (ci := 0) (v := .int (nI c)) (C := "StepMap") (T := F_M) (N := 6) hx hb ht i_M hown hk.1 hP 0 rfl rfl 3 (by decide) (ht _ mw_1_51) (fun _ h9 => h9) rfl d_M_moveOn_64 ?_
        refine x_ald hx hb hk hP 6 0 rfl rfl (i := c) (by omega) (by omega) d_M_moveOn_67 ?_
        refine xV_i (D := D) (k := 1) (ci := 1) (q := ("StepMap$Table", F_T, 5)) (wr := ((h, .inr (0, [.int (nI hf), .ref a.1, .ref b.1, .int (nI c), .int (nI cnt), .int wk])) :: (wT b cA hf (nI oc) (v2 + 1) O1))) (wb := fun u => (wM h hf a.1 b.1 a b cA (nI c) (nI cnt) wk (nI fc) (v1 + nI (fct fc F1 (O1.1 c))) F1 (nI oc) (v2 + 1) O1)) (rest := []) ⟨hx, hb, hml, hown, ht⟩ (c_T_find l D cA a hf fc v1 F1 (O1.1 c) hpf hfh hh hfo) gv_M_51 (by decide +kernel) rfl ⟨Nat.le_of_ble_eq_true rfl, Nat.le_of_ble_eq_true rfl⟩ hk hP hD hS hA [1, 2, 3, 4] [0, 5, 6, 7, 8] [0, 5, 6, 7, 8, 1, 2, 3, 4] rfl rfl (fun _ => rfl) ⟨rfl, rfl, rfl⟩ (by decide) rfl rfl hl.1 rfl (Nat.le_of_ble_eq_true rfl) d_M_moveOn_68 ⟨Nat.zero_le _, Nat.zero_le _⟩ (fun r u H locs hp hP hD hS => ?_)
        have hp : r = (nI (fsl fc F1 (O1.1 c))) := hp
        subst hp
        have hP : va_P D classes (wM h hf a.1 b.1 a b cA (nI c) (nI cnt) wk (nI fc) (v1 + nI (fct fc F1 (O1.1 c))) F1 (nI oc) (v2 + 1) O1) H := hP
        have hD : va_D A (wM h hf a.1 b.1 a b cA (nI c) (nI cnt) wk (nI fc) (v1 + nI (fct fc F1 (O1.1 c))) F1 (nI oc) (v2 + 1) O1) := hD
        refine lv_istore_n (lv' := [(2, .int (nI (fsl fc F1 (O1.1 c)))), (1, .int (nI (cur + mvc oc cur))), (0, .ref h)]) hx hb d_M_moveOn_71 rfl hl (by decide) rfl (fun ls hl => ?_)
        refine lv_aload_n hx hb d_M_moveOn_72 rfl (lv_at hl 2 rfl) ?_
        refine va_get (D := D) (cl := classes) (ci := 0) (v := .ref a.1) (C := "StepMap") (T := F_M) (N := 6) hx hb ht i_M hown hk.1 hP 0 rfl rfl 1 (by decide) (ht _ mw_1_49) (fun _ h9 => h9) rfl d_M_moveOn_73 ?_
        refine lv_iload_n hx hb d_M_moveOn_76 rfl (lv_at hl 0 rfl) ?_
        refine lv_aload_n hx hb d_M_moveOn_77 rfl (lv_at hl 2 rfl) ?_
        refine va_get (D := D) (cl := classes) (ci := 0) (v := .ref b.1) (C := "StepMap") (T := F_M) (N := 6) hx hb ht i_M hown hk.1 hP 0 rfl rfl 2 (by decide) (ht _ mw_1_50) (fun _ h9 => h9) rfl d_M_moveOn_78 ?_
        refine va_getN (D := D) (cl := classes) (ci := 1) (v := .ref b.2.1) (C := "StepMap$Table") (T := F_T) (N := 5) hx hb ht i_T hown hk.1 hP 5 rfl rfl 0 (by decide) (va_Nw.use rfl hk.2.1) (fun _ h9 => h9) rfl d_M_moveOn_81 ?_
        refine lv_aload_n hx hb d_M_moveOn_84 rfl (lv_at hl 2 rfl) ?_
        refine va_get (D := D) (cl := classes) (ci := 0) (v := .int (nI c)) (C := "StepMap") (T := F_M) (N := 6) hx hb ht i_M hown hk.1 hP 0 rfl rfl 3 (by decide) (ht _ mw_1_51) (fun _ h9 => h9) rfl d_M_moveOn_85 ?_
        refine x_ald hx hb hk hP 6 0 rfl rfl (i := c) (by omega) (by omega) d_M_moveOn_88 ?_
        refine lv_aload_n hx hb d_M_moveOn_89 rfl (lv_at hl 2 rfl) ?_
        refine va_get (D := D) (cl := classes) (ci := 0) (v := .ref b.1) (C := "StepMap") (T := F_M) (N := 6) hx hb ht i_M hown hk.1 hP 0 rfl rfl 2 (by decide) (ht _ mw_1_50) (fun _ h9 => h9) rfl d_M_moveOn_90 ?_
        refine va_getN (D := D) (cl := classes) (ci := 1) (v := .ref b.2.2.1) (C := "StepMap$Table") (T := F_T) (N := 5) hx hb ht i_T hown hk.1 hP 5 rfl rfl 1 (by decide) (va_Nw.use rfl hk.2.2.1) (fun _ h9 => h9) rfl d_M_moveOn_93 ?_
        refine lv_aload_n hx hb d_M_moveOn_96 rfl (lv_at hl 2 rfl) ?_
        refine va_get (D := D) (cl := classes) (ci := 0) (v := .int (nI c)) (C := "StepMap") (T := F_M) (N := 6) hx hb ht i_M hown hk.1 hP 0 rfl rfl 3 (by decide) (ht _ mw_1_51) (fun _ h9 => h9) rfl d_M_moveOn_97 ?_
        refine x_ald hx hb hk hP 7 0 rfl rfl (i := c) (by omega) (by omega) d_M_moveOn_100 ?_
        refine xV_v (D := D) (k := 3) (ci := 1) (q := ("StepMap$Table", F_T, 5)) (wr := ((h, .inr (0, [.int (nI hf), .ref a.1, .ref b.1, .int (nI c), .int (nI cnt), .int wk])) :: (wT b cA hf (nI oc) (v2 + 1) O1))) (wb := fun u => (wM h hf a.1 b.1 a b cA (nI c) (nI cnt) wk (nI fc) (v1 + nI (fct fc F1 (O1.1 c))) (tput F1 (fsl fc F1 (O1.1 c)) (O1.1 c) (O1.2.1 c)) (nI oc) (v2 + 1) O1)) (rest := []) ⟨hx, hb, hml, hown, ht⟩ (c_T_put l D cA a hf fc (v1 + nI (fct fc F1 (O1.1 c))) F1 (fsl fc F1 (O1.1 c)) (O1.1 c) (O1.2.1 c) hh (by omega)) gv_M_66 (by decide +kernel) rfl ⟨Nat.le_of_ble_eq_true rfl, Nat.le_of_ble_eq_true rfl⟩ hk hP hD hS hA [1, 2, 3, 4] [0, 5, 6, 7, 8] [0, 5, 6, 7, 8, 1, 2, 3, 4] rfl rfl (fun _ => rfl) ⟨rfl, rfl, rfl⟩ (by decide) rfl rfl hl.1 rfl (Nat.le_of_ble_eq_true rfl) d_M_moveOn_101 ⟨Nat.zero_le _, Nat.zero_le _⟩ (fun u H locs hp hP hD hS => ?_)
        have hP : va_P D classes (wM h hf a.1 b.1 a b cA (nI c) (nI cnt) wk (nI fc) (v1 + nI (fct fc F1 (O1.1 c))) (tput F1 (fsl fc F1 (O1.1 c)) (O1.1 c) (O1.2.1 c)) (nI oc) (v2 + 1) O1) H := hP
        have hD : va_D A (wM h hf a.1 b.1 a b cA (nI c) (nI cnt) wk (nI fc) (v1 + nI (fct fc F1 (O1.1 c))) (tput F1 (fsl fc F1 (O1.1 c)) (O1.1 c) (O1.2.1 c)) (nI oc) (v2 + 1) O1) := hD
        have em : mv1 fc F1 O1 c = (tput F1 (fsl fc F1 (O1.1 c)) (O1.1 c) (O1.2.1 c), (O1.1, O1.2.1, upd O1.2.2 c 2), fct fc F1 (O1.1 c)) := if_pos h1
        simp only [mvn] at e1 e2 e3
        rw [em] at hm2 e1 e2 e3
        refine lv_aload_n hx hb d_M_moveOn_104 rfl (lv_at hl 2 rfl) ?_
        refine va_get (D := D) (cl := classes) (ci := 0) (v := .ref b.1) (C := "StepMap") (T := F_M) (N := 6) hx hb ht i_M hown hk.1 hP 0 rfl rfl 2 (by decide) (ht _ mw_1_50) (fun _ h9 => h9) rfl d_M_moveOn_105 ?_
        refine va_getN (D := D) (cl := classes) (ci := 1) (v := .ref b.2.2.2) (C := "StepMap$Table") (T := F_T) (N := 5) hx hb ht i_T hown hk.1 hP 5 rfl rfl 2 (by decide) (va_Nw.use rfl hk.2.2.2.1) (fun _ h9 => h9) rfl d_M_moveOn_108 ?_
        refine lv_aload_n hx hb d_M_moveOn_111 rfl (lv_at hl 2 rfl) ?_
        refine va_get (D := D) (cl := classes) (ci := 0) (v := .int (nI c)) (C := "StepMap") (T := F_M) (N := 6) hx hb ht i_M hown hk.1 hP 0 rfl rfl 3 (by decide) (ht _ mw_1_51) (fun _ h9 => h9) rfl d_M_moveOn_112 ?_
        refine lv_iconst (v := 2) hx hb d_M_moveOn_115 (by decide) ?_
        refine x_ast hx hb hk hP hD hS 8 0 rfl rfl (i := c) (x := 2) (by omega) (by omega) d_M_moveOn_116 (fun H locs hP hD hS => ?_)
        have hP : va_P D classes (wM h hf a.1 b.1 a b cA (nI c) (nI cnt) wk (nI fc) (v1 + nI (fct fc F1 (O1.1 c))) (tput F1 (fsl fc F1 (O1.1 c)) (O1.1 c) (O1.2.1 c)) (nI oc) (v2 + 1) (O1.1, O1.2.1, (upd O1.2.2 c 2))) H := hP
        have hD : va_D A (wM h hf a.1 b.1 a b cA (nI c) (nI cnt) wk (nI fc) (v1 + nI (fct fc F1 (O1.1 c))) (tput F1 (fsl fc F1 (O1.1 c)) (O1.1 c) (O1.2.1 c)) (nI oc) (v2 + 1) (O1.1, O1.2.1, (upd O1.2.2 c 2))) := hD
        refine lv_aload_n hx hb d_M_moveOn_117 rfl (lv_at hl 2 rfl) ?_
        refine lv_dup hx hb d_M_moveOn_118 rfl ?_
        refine va_get (D := D) (cl := classes) (ci := 0) (v := .int (nI c)) (C := "StepMap") (T := F_M) (N := 6) hx hb ht i_M hown hk.1 hP 0 rfl rfl 3 (by decide) (ht _ mw_1_51) (fun _ h9 => h9) rfl d_M_moveOn_119 ?_
        refine lv_iconst (v := 1) hx hb d_M_moveOn_122 (by decide) ?_
        refine lv_iadd hx hb d_M_moveOn_123 ?_
        refine x_top (z := (nI (c + 1))) (nI_1 c) ?_
        refine va_put (D := D) (cl := classes) (ci := 0) (v := .int (nI (c + 1))) (ty := .int) (C := "StepMap") (T := F_M) (N := 6) hx hb ht i_M tt_M tt_M_ok n_M hown hk.1 hP hD hS 0 rfl rfl 3 (by decide) (ht _ mw_1_51) (fun _ h9 => h9) rfl (by decide +kernel) rfl rfl (Nat.le_of_ble_eq_true rfl) d_M_moveOn_124 (fun H locs hP hD hS => ?_)
        have hP : va_P D classes (wM h hf a.1 b.1 a b cA (nI (c + 1)) (nI cnt) wk (nI fc) (v1 + nI (fct fc F1 (O1.1 c))) (tput F1 (fsl fc F1 (O1.1 c)) (O1.1 c) (O1.2.1 c)) (nI oc) (v2 + 1) (O1.1, O1.2.1, (upd O1.2.2 c 2))) H := hP
        have hD : va_D A (wM h hf a.1 b.1 a b cA (nI (c + 1)) (nI cnt) wk (nI fc) (v1 + nI (fct fc F1 (O1.1 c))) (tput F1 (fsl fc F1 (O1.1 c)) (O1.1 c) (O1.2.1 c)) (nI oc) (v2 + 1) (O1.1, O1.2.1, (upd O1.2.2 c 2))) := hD
        refine lv_goto (tgt := 17) hx hb d_M_moveOn_127 (by decide) ?_
        exact ih (c + 1) _ (O1.1, O1.2.1, upd O1.2.2 c 2) (v1 + nI (fct fc F1 (O1.1 c))) (v2 + 1) _ _ _ (by omega) hm2 hP hD hS (lv_sub hl [1, 2] rfl) e1 e2 (by rw [← e3, ← nI_add]; ac_rfl) (by rw [← e4, nI_succ]; ac_rfl)
      · skip
        refine x_top (z := 0) (if00 h1) ?_
        refine lv_if_eq (tgt := 117) hx hb d_M_moveOn_49 (by decide) (fun _ => ?_) (fun c9 => absurd (rfl) c9)
        have em : mv1 fc F1 O1 c = (F1, O1, 0) := if_neg h1
        simp only [mvn] at e1 e2 e3
        rw [em] at hm2 e1 e2 e3
        refine lv_aload_n hx hb d_M_moveOn_117 rfl (lv_at hl 1 rfl) ?_
        refine lv_dup hx hb d_M_moveOn_118 rfl ?_
        refine va_get (D := D) (cl := classes) (ci := 0) (v := .int (nI c)) (C := "StepMap") (T := F_M) (N := 6) hx hb ht i_M hown hk.1 hP 0 rfl rfl 3 (by decide) (ht _ mw_1_51) (fun _ h9 => h9) rfl d_M_moveOn_119 ?_
        refine lv_iconst (v := 1) hx hb d_M_moveOn_122 (by decide) ?_
        refine lv_iadd hx hb d_M_moveOn_123 ?_
        refine x_top (z := (nI (c + 1))) (nI_1 c) ?_
        refine va_put (D := D) (cl := classes) (ci := 0) (v := .int (nI (c + 1))) (ty := .int) (C := "StepMap") (T := F_M) (N := 6) hx hb ht i_M tt_M tt_M_ok n_M hown hk.1 hP hD hS 0 rfl rfl 3 (by decide) (ht _ mw_1_51) (fun _ h9 => h9) rfl (by decide +kernel) rfl rfl (Nat.le_of_ble_eq_true rfl) d_M_moveOn_124 (fun H locs hP hD hS => ?_)
        have hP : va_P D classes (wM h hf a.1 b.1 a b cA (nI (c + 1)) (nI cnt) wk (nI fc) v1 F1 (nI oc) (v2 + 1) O1) H := hP
        have hD : va_D A (wM h hf a.1 b.1 a b cA (nI (c + 1)) (nI cnt) wk (nI fc) v1 F1 (nI oc) (v2 + 1) O1) := hD
        refine lv_goto (tgt := 17) hx hb d_M_moveOn_127 (by decide) ?_
        exact ih (c + 1) F1 O1 v1 (v2 + 1) _ _ _ (by omega) hm2 hP hD hS (lv_sub hl [0, 1] rfl) e1 e2 (by rw [← e3]; congr 2; exact (Nat.zero_add _).symm) (by rw [← e4, nI_succ]; ac_rfl)
  refine lv_aload_n hx hb d_M_moveOn_0 rfl (lv_at hl 0 rfl) ?_
  refine va_get (D := D) (cl := classes) (ci := 0) (v := .int (nI cur)) (C := "StepMap") (T := F_M) (N := 6) hx hb ht i_M hown hk.1 hP 0 rfl rfl 3 (by decide) (ht _ mw_1_51) (fun _ h9 => h9) rfl d_M_moveOn_1 ?_
  refine lv_iconst (v := 4) hx hb d_M_moveOn_4 (by decide) ?_
  refine lv_iadd hx hb d_M_moveOn_5 ?_
  refine x_top (z := (nI (cur + 4))) (nI_add cur 4) ?_
  refine lv_aload_n hx hb d_M_moveOn_6 rfl (lv_at hl 0 rfl) ?_
  refine va_get (D := D) (cl := classes) (ci := 0) (v := .ref b.1) (C := "StepMap") (T := F_M) (N := 6) hx hb ht i_M hown hk.1 hP 0 rfl rfl 2 (by decide) (ht _ mw_1_50) (fun _ h9 => h9) rfl d_M_moveOn_7 ?_
  refine va_getN (D := D) (cl := classes) (ci := 1) (v := .int (nI oc)) (C := "StepMap$Table") (T := F_T) (N := 5) hx hb ht i_T hown hk.1 hP 5 rfl rfl 3 (by decide) (va_Nw.use rfl hk.2.2.2.2.1) (fun _ h9 => h9) rfl d_M_moveOn_10 ?_
  refine va_mmin hx hb (hml.trans hl.1.symm) hown (ht _ mw_1_13) (ht _ mw_1_14) (ht _ mw_1_2) (ht _ mw_1_15) (Nat.le_of_ble_eq_true rfl) (Nat.le_of_ble_eq_true rfl) (Nat.zero_le _) (Nat.zero_le _) d_M_moveOn_13 ?_
  refine x_top (z := (nI (cur + mvc oc cur))) (min_mvc hcu (by omega)) ?_
  refine lv_istore_n (lv' := [(1, .int (nI (cur + mvc oc cur))), (0, .ref h)]) hx hb d_M_moveOn_16 rfl hl (by decide) rfl (fun ls hl => ?_)
  exact loop (mvc oc cur) cur F O fv ov _ _ _ rfl hok hP hD hS hl rfl rfl rfl rfl
set_option maxHeartbeats 4000000 in
set_option maxRecDepth 100000 in
theorem c_M_settle (l : Launch) (D : va_G) (cA : ClassId) (h hf : Nat) (a b : Ad) (cur cnt fc oc : Nat) (wk fv ov : Int32) (F O : Tb) (w : Nat) (hsi : SI hf fc F oc O cur cnt) (hw : fv + ov = nI w) : Mv l D [(cA, .int)] y_M_settle b_M_settle 1 4 86 0 0 [.ref h] (wM h hf a.1 b.1 a b cA (nI cur) (nI cnt) wk (nI fc) fv F (nI oc) ov O) (fun (u : Uu) => u.2.2.1 + u.2.2.2 = nI (stw fc F oc O cur w)) (fun u => wS h hf u.1 u.2.1 cA (stl fc F oc O cur cnt wk) u.2.2.1 u.2.2.2) := by
  refine mv_start (own := "StepMap") (by decide +kernel) rfl (Nat.le_of_ble_eq_true rfl) ?_
  intro p e s m args below meth cd ls A Q hx hb hml hin hown ht hk hP hD hA hl hret
  have hS : va_S A s.heap s.heap [] := va_S.rf
  have hl : lv_has ls 1 [(0, .ref h)] := hl
  obtain ⟨hh, hfh, hf8, hcu, ho, hct⟩ := hsi.bounds
  have hpf := hsi.2.1
  obtain ⟨hg1, hg2⟩ := hsi.half
  have hok := hsi.mok
  have sec : (3 * fc ≤ 4 * cnt → 2 * fc ≤ hf) → ∀ (F1 O1 : Tb) (v1 v2 : Int32) (H : Heap) (locs : List Loc) (ls : Array Slot), va_P D classes (wM h hf a.1 b.1 a b cA (nI 0) (nI cnt) wk (nI fc) v1 F1 (nI 0) v2 O1) H → va_D A (wM h hf a.1 b.1 a b cA (nI 0) (nI cnt) wk (nI fc) v1 F1 (nI 0) v2 O1) → va_S A s.heap H locs → lv_has ls 1 [(0, .ref h)] → (stl fc F oc O cur cnt wk) = s2 fc F1 O1 cnt wk → v1 + v2 = nI (stw fc F oc O cur w) → W p l e { frames := 4, cells := 0, slots := 0, locals := 86 } s m args below meth cd H locs 0 0 Q (F0 m 19 ls []) := by
    intro hgr F1 O1 v1 v2 H locs ls hP hD hS hl eS eW
    refine lv_aload_n hx hb d_M_settle_19 rfl (lv_at hl 0 rfl) ?_
    refine lv_aload_n hx hb d_M_settle_20 rfl (lv_at hl 0 rfl) ?_
    refine va_get (D := D) (cl := classes) (ci := 0) (v := .int (nI cnt)) (C := "StepMap") (T := F_M) (N := 6) hx hb ht i_M hown hk.1 hP 0 rfl rfl 4 (by decide) (ht _ mw_1_52) (fun _ h9 => h9) rfl d_M_settle_21 ?_
    refine xV_i (D := D) (k := 1) (ci := 0) (q := ("StepMap", F_M, 6)) (wr := []) (wb := fun u => (wM h hf a.1 b.1 a b cA (nI 0) (nI cnt) wk (nI fc) v1 F1 (nI 0) v2 O1)) (rest := []) ⟨hx, hb, hml, hown, ht⟩ (c_M_isCrowded l D cA h hf a b 0 cnt fc 0 wk v1 v2 F1 O1 cnt (by omega) (by omega)) gv_M_79 (by decide +kernel) rfl ⟨Nat.le_of_ble_eq_true rfl, Nat.le_of_ble_eq_true rfl⟩ hk hP hD hS hA [0, 1, 2, 3, 4, 5, 6, 7, 8] [] [0, 1, 2, 3, 4, 5, 6, 7, 8] rfl rfl (fun _ => rfl) ⟨rfl, rfl, rfl⟩ (by decide) rfl rfl hl.1 rfl (Nat.le_of_ble_eq_true rfl) d_M_settle_24 ⟨Nat.zero_le _, Nat.zero_le _⟩ (fun r u H locs hp hP hD hS => ?_)
    have hp : r = (if 3 * fc ≤ 4 * cnt then 1 else 0) := hp
    subst hp
    have hP : va_P D classes (wM h hf a.1 b.1 a b cA (nI 0) (nI cnt) wk (nI fc) v1 F1 (nI 0) v2 O1) H := hP
    have hD : va_D A (wM h hf a.1 b.1 a b cA (nI 0) (nI cnt) wk (nI fc) v1 F1 (nI 0) v2 O1) := hD
    by_cases h1 : 3 * fc ≤ 4 * cnt
    · skip
      refine x_top (z := 1) (if10 h1) ?_
      refine lv_if_eq (tgt := 46) hx hb d_M_settle_27 (by decide) (fun c9 => absurd c9 (by decide)) (fun _ => ?_)
      have h2f := hgr h1
      refine lv_aload_n hx hb d_M_settle_30 rfl (lv_at hl 0 rfl) ?_
      refine lv_iconst (v := 2) hx hb d_M_settle_31 (by decide) ?_
      refine lv_aload_n hx hb d_M_settle_32 rfl (lv_at hl 0 rfl) ?_
      refine va_get (D := D) (cl := classes) (ci := 0) (v := .ref a.1) (C := "StepMap") (T := F_M) (N := 6) hx hb ht i_M hown hk.1 hP 0 rfl rfl 1 (by decide) (ht _ mw_1_49) (fun _ h9 => h9) rfl d_M_settle_33 ?_
      refine va_getN (D := D) (cl := classes) (ci := 1) (v := .int (nI fc)) (C := "StepMap$Table") (T := F_T) (N := 5) hx hb ht i_T hown hk.1 hP 1 rfl rfl 3 (by decide) (va_Nw.use rfl hk.2.2.2.2.1) (fun _ h9 => h9) rfl d_M_settle_36 ?_
      refine lv_imul hx hb d_M_settle_39 ?_
      refine x_top (z := (nI (2 * fc))) (mul2 fc) ?_
      refine xV_v (D := D) (k := 1) (ci := 0) (q := ("StepMap", F_M, 6)) (wr := []) (wb := fun u => (wM h hf b.1 a.1 b a cA 0 (nI cnt) wk (nI (2 * fc)) v2 (O1.1, O1.2.1, (clr O1.2.2 (2 * fc))) (nI fc) v1 F1)) (rest := []) ⟨hx, hb, hml, hown, ht⟩ (c_M_change l D cA h hf a b 0 cnt fc 0 wk v1 v2 F1 O1 (2 * fc) hh (by omega)) gv_M_82 (by decide +kernel) rfl ⟨Nat.le_of_ble_eq_true rfl, Nat.le_of_ble_eq_true rfl⟩ hk hP hD hS hA [0, 1, 2, 3, 4, 5, 6, 7, 8] [] [0, 1, 2, 3, 4, 5, 6, 7, 8] rfl rfl (fun _ => rfl) ⟨rfl, rfl, rfl⟩ (by decide) rfl rfl hl.1 rfl (Nat.le_of_ble_eq_true rfl) d_M_settle_40 ⟨Nat.zero_le _, Nat.zero_le _⟩ (fun u H locs hp hP hD hS => ?_)
      have hP : va_P D classes (wM h hf b.1 a.1 b a cA 0 (nI cnt) wk (nI (2 * fc)) v2 (O1.1, O1.2.1, (clr O1.2.2 (2 * fc))) (nI fc) v1 F1) H := hP
      have hD : va_D A (wM h hf b.1 a.1 b a cA 0 (nI cnt) wk (nI (2 * fc)) v2 (O1.1, O1.2.1, (clr O1.2.2 (2 * fc))) (nI fc) v1 F1) := hD
      have eS : (stl fc F oc O cur cnt wk) = (2 * fc, (O1.1, O1.2.1, clr O1.2.2 (2 * fc)), fc, F1, 0, cnt, wk) := by rw [eS]; unfold s2; rw [if_pos h1]
      refine lv_goto (tgt := 88) hx hb d_M_settle_43 (by decide) ?_
      have hP : va_P D classes (wS h hf b a cA (stl fc F oc O cur cnt wk) v2 v1) H := by rw [eS]; exact hP
      have hD : va_D A (wS h hf b a cA (stl fc F oc O cur cnt wk) v2 v1) := by rw [eS]; exact hD
      exact hret _ _ _ _ _ (b, a, v2, v1) d_M_settle_88 hP hD hS (by show v2 + v1 = _; rw [← eW]; exact Int32.add_comm _ _) rfl
    · skip
      refine x_top (z := 0) (if00 h1) ?_
      refine lv_if_eq (tgt := 46) hx hb d_M_settle_27 (by decide) (fun _ => ?_) (fun c9 => absurd (rfl) c9)
      refine lv_bipush (v := 8) hx hb d_M_settle_46 (by decide) ?_
      refine lv_aload_n hx hb d_M_settle_48 rfl (lv_at hl 0 rfl) ?_
      refine va_get (D := D) (cl := classes) (ci := 0) (v := .int (nI cnt)) (C := "StepMap") (T := F_M) (N := 6) hx hb ht i_M hown hk.1 hP 0 rfl rfl 4 (by decide) (ht _ mw_1_52) (fun _ h9 => h9) rfl d_M_settle_49 ?_
      refine lv_imul hx hb d_M_settle_52 ?_
      refine x_top (z := (nI (8 * cnt))) (mul8 cnt) ?_
      refine lv_aload_n hx hb d_M_settle_53 rfl (lv_at hl 0 rfl) ?_
      refine va_get (D := D) (cl := classes) (ci := 0) (v := .ref a.1) (C := "StepMap") (T := F_M) (N := 6) hx hb ht i_M hown hk.1 hP 0 rfl rfl 1 (by decide) (ht _ mw_1_49) (fun _ h9 => h9) rfl d_M_settle_54 ?_
      refine va_getN (D := D) (cl := classes) (ci := 1) (v := .int (nI fc)) (C := "StepMap$Table") (T := F_T) (N := 5) hx hb ht i_T hown hk.1 hP 1 rfl rfl 3 (by decide) (va_Nw.use rfl hk.2.2.2.2.1) (fun _ h9 => h9) rfl d_M_settle_57 ?_
      refine lv_icmp_gt (tgt := 88) hx hb d_M_settle_60 (by decide) (fun c1 => ?_) (fun c1 => ?_)
      · skip
        have q1 : fc < 8 * cnt := (nI_ltI (by omega) (by omega)).mp c1
        have eS : (stl fc F oc O cur cnt wk) = (fc, F1, 0, O1, 0, cnt, wk) := by rw [eS]; unfold s2; rw [if_neg h1, if_neg (fun z => by omega)]
        have hP : va_P D classes (wS h hf a b cA (stl fc F oc O cur cnt wk) v1 v2) H := by rw [eS]; exact hP
        have hD : va_D A (wS h hf a b cA (stl fc F oc O cur cnt wk) v1 v2) := by rw [eS]; exact hD
        exact hret _ _ _ _ _ (a, b, v1, v2) d_M_settle_88 hP hD hS (eW) rfl
      · skip
        have q1 : 8 * cnt ≤ fc := Nat.le_of_not_lt fun z => c1 (nI_lt z (by omega))
        refine lv_aload_n hx hb d_M_settle_63 rfl (lv_at hl 0 rfl) ?_
        refine va_get (D := D) (cl := classes) (ci := 0) (v := .ref a.1) (C := "StepMap") (T := F_M) (N := 6) hx hb ht i_M hown hk.1 hP 0 rfl rfl 1 (by decide) (ht _ mw_1_49) (fun _ h9 => h9) rfl d_M_settle_64 ?_
        refine va_getN (D := D) (cl := classes) (ci := 1) (v := .int (nI fc)) (C := "StepMap$Table") (T := F_T) (N := 5) hx hb ht i_T hown hk.1 hP 1 rfl rfl 3 (by decide) (va_Nw.use rfl hk.2.2.2.2.1) (fun _ h9 => h9) rfl d_M_settle_67 ?_
        refine lv_bipush (v := 8) hx hb d_M_settle_70 (by decide) ?_
        refine lv_icmp_le (tgt := 88) hx hb d_M_settle_72 (by decide) (fun c2 => ?_) (fun c2 => ?_)
        · skip
          have q2 : fc ≤ 8 := (nI_leI (a := fc) (b := 8) (by omega) (by decide)).mp c2
          have eS : (stl fc F oc O cur cnt wk) = (fc, F1, 0, O1, 0, cnt, wk) := by rw [eS]; unfold s2; rw [if_neg h1, if_neg (fun z => by omega)]
          have hP : va_P D classes (wS h hf a b cA (stl fc F oc O cur cnt wk) v1 v2) H := by rw [eS]; exact hP
          have hD : va_D A (wS h hf a b cA (stl fc F oc O cur cnt wk) v1 v2) := by rw [eS]; exact hD
          exact hret _ _ _ _ _ (a, b, v1, v2) d_M_settle_88 hP hD hS (eW) rfl
        · skip
          have q2 : 8 < fc := Nat.lt_of_not_le fun z => c2 (nI_le z (by decide))
          refine lv_aload_n hx hb d_M_settle_75 rfl (lv_at hl 0 rfl) ?_
          refine lv_aload_n hx hb d_M_settle_76 rfl (lv_at hl 0 rfl) ?_
          refine va_get (D := D) (cl := classes) (ci := 0) (v := .ref a.1) (C := "StepMap") (T := F_M) (N := 6) hx hb ht i_M hown hk.1 hP 0 rfl rfl 1 (by decide) (ht _ mw_1_49) (fun _ h9 => h9) rfl d_M_settle_77 ?_
          refine va_getN (D := D) (cl := classes) (ci := 1) (v := .int (nI fc)) (C := "StepMap$Table") (T := F_T) (N := 5) hx hb ht i_T hown hk.1 hP 1 rfl rfl 3 (by decide) (va_Nw.use rfl hk.2.2.2.2.1) (fun _ h9 => h9) rfl d_M_settle_80 ?_
          refine lv_iconst (v := 2) hx hb d_M_settle_83 (by decide) ?_
          refine lv_idiv hx hb d_M_settle_84 (by decide) ?_
          refine x_top (z := (nI (fc / 2))) (div2N (by omega)) ?_
          refine xV_v (D := D) (k := 1) (ci := 0) (q := ("StepMap", F_M, 6)) (wr := []) (wb := fun u => (wM h hf b.1 a.1 b a cA 0 (nI cnt) wk (nI (fc / 2)) v2 (O1.1, O1.2.1, (clr O1.2.2 (fc / 2))) (nI fc) v1 F1)) (rest := []) ⟨hx, hb, hml, hown, ht⟩ (c_M_change l D cA h hf a b 0 cnt fc 0 wk v1 v2 F1 O1 (fc / 2) hh (by omega)) gv_M_82 (by decide +kernel) rfl ⟨Nat.le_of_ble_eq_true rfl, Nat.le_of_ble_eq_true rfl⟩ hk hP hD hS hA [0, 1, 2, 3, 4, 5, 6, 7, 8] [] [0, 1, 2, 3, 4, 5, 6, 7, 8] rfl rfl (fun _ => rfl) ⟨rfl, rfl, rfl⟩ (by decide) rfl rfl hl.1 rfl (Nat.le_of_ble_eq_true rfl) d_M_settle_85 ⟨Nat.zero_le _, Nat.zero_le _⟩ (fun u H locs hp hP hD hS => ?_)
          have hP : va_P D classes (wM h hf b.1 a.1 b a cA 0 (nI cnt) wk (nI (fc / 2)) v2 (O1.1, O1.2.1, (clr O1.2.2 (fc / 2))) (nI fc) v1 F1) H := hP
          have hD : va_D A (wM h hf b.1 a.1 b a cA 0 (nI cnt) wk (nI (fc / 2)) v2 (O1.1, O1.2.1, (clr O1.2.2 (fc / 2))) (nI fc) v1 F1) := hD
          have eS : (stl fc F oc O cur cnt wk) = (fc / 2, (O1.1, O1.2.1, clr O1.2.2 (fc / 2)), fc, F1, 0, cnt, wk) := by rw [eS]; unfold s2; rw [if_neg h1, if_pos ⟨q1, q2⟩]
          have hP : va_P D classes (wS h hf b a cA (stl fc F oc O cur cnt wk) v2 v1) H := by rw [eS]; exact hP
          have hD : va_D A (wS h hf b a cA (stl fc F oc O cur cnt wk) v2 v1) := by rw [eS]; exact hD
          exact hret _ _ _ _ _ (b, a, v2, v1) d_M_settle_88 hP hD hS (by show v2 + v1 = _; rw [← eW]; exact Int32.add_comm _ _) rfl
  refine lv_aload_n hx hb d_M_settle_0 rfl (lv_at hl 0 rfl) ?_
  refine xV_i (D := D) (k := 0) (ci := 0) (q := ("StepMap", F_M, 6)) (wr := []) (wb := fun u => (wM h hf a.1 b.1 a b cA (nI cur) (nI cnt) wk (nI fc) fv F (nI oc) ov O)) (rest := []) ⟨hx, hb, hml, hown, ht⟩ (c_M_isMigrating l D cA h hf a b cur cnt fc oc wk fv ov F O hcu (by omega)) gv_M_47 (by decide +kernel) rfl ⟨Nat.le_of_ble_eq_true rfl, Nat.le_of_ble_eq_true rfl⟩ hk hP hD hS hA [0, 1, 2, 3, 4, 5, 6, 7, 8] [] [0, 1, 2, 3, 4, 5, 6, 7, 8] rfl rfl (fun _ => rfl) ⟨rfl, rfl, rfl⟩ (by decide) rfl rfl hl.1 rfl (Nat.le_of_ble_eq_true rfl) d_M_settle_1 ⟨Nat.zero_le _, Nat.zero_le _⟩ (fun r u H locs hp hP hD hS => ?_)
  have hp : r = (if cur < oc then 1 else 0) := hp
  subst hp
  have hP : va_P D classes (wM h hf a.1 b.1 a b cA (nI cur) (nI cnt) wk (nI fc) fv F (nI oc) ov O) H := hP
  have hD : va_D A (wM h hf a.1 b.1 a b cA (nI cur) (nI cnt) wk (nI fc) fv F (nI oc) ov O) := hD
  by_cases h1 : cur < oc
  · skip
    refine x_top (z := 1) (if10 h1) ?_
    refine lv_if_eq (tgt := 11) hx hb d_M_settle_4 (by decide) (fun c9 => absurd c9 (by decide)) (fun _ => ?_)
    refine lv_aload_n hx hb d_M_settle_7 rfl (lv_at hl 0 rfl) ?_
    refine xV_v (D := D) (k := 0) (ci := 0) (q := ("StepMap", F_M, 6)) (wr := []) (wb := fun u => (wM h hf a.1 b.1 a b cA (nI (mcu oc cur)) (nI cnt) wk (nI fc) (fv + nI (mvn fc (mvc oc cur) cur F O).2.2) (mvn fc (mvc oc cur) cur F O).1 (nI (moc oc cur)) (ov + nI (mvc oc cur)) (mvn fc (mvc oc cur) cur F O).2.1)) (rest := []) ⟨hx, hb, hml, hown, ht⟩ (c_M_moveOn l D cA h hf a b cur cnt fc oc wk fv ov F O h1 ho hh hpf hfh (hok h1)) gv_M_73 (by decide +kernel) rfl ⟨Nat.le_of_ble_eq_true rfl, Nat.le_of_ble_eq_true rfl⟩ hk hP hD hS hA [0, 1, 2, 3, 4, 5, 6, 7, 8] [] [0, 1, 2, 3, 4, 5, 6, 7, 8] rfl rfl (fun _ => rfl) ⟨rfl, rfl, rfl⟩ (by decide) rfl rfl hl.1 rfl (Nat.le_of_ble_eq_true rfl) d_M_settle_8 ⟨Nat.zero_le _, Nat.zero_le _⟩ (fun u H locs hp hP hD hS => ?_)
    have hP : va_P D classes (wM h hf a.1 b.1 a b cA (nI (mcu oc cur)) (nI cnt) wk (nI fc) (fv + nI (mvn fc (mvc oc cur) cur F O).2.2) (mvn fc (mvc oc cur) cur F O).1 (nI (moc oc cur)) (ov + nI (mvc oc cur)) (mvn fc (mvc oc cur) cur F O).2.1) H := hP
    have hD : va_D A (wM h hf a.1 b.1 a b cA (nI (mcu oc cur)) (nI cnt) wk (nI fc) (fv + nI (mvn fc (mvc oc cur) cur F O).2.2) (mvn fc (mvc oc cur) cur F O).1 (nI (moc oc cur)) (ov + nI (mvc oc cur)) (mvn fc (mvc oc cur) cur F O).2.1) := hD
    have eW : (fv + nI (mvn fc (mvc oc cur) cur F O).2.2) + (ov + nI (mvc oc cur)) = nI (stw fc F oc O cur w) := by
      unfold stw
      rw [if_pos h1, ← nI_add, ← nI_add, ← hw]
      ac_rfl
    have hmm : mcu oc cur ≤ moc oc cur ∧ moc oc cur ≤ oc := by unfold mcu moc; split <;> omega
    refine lv_aload_n hx hb d_M_settle_11 rfl (lv_at hl 0 rfl) ?_
    refine xV_i (D := D) (k := 0) (ci := 0) (q := ("StepMap", F_M, 6)) (wr := []) (wb := fun u => (wM h hf a.1 b.1 a b cA (nI (mcu oc cur)) (nI cnt) wk (nI fc) (fv + nI (mvn fc (mvc oc cur) cur F O).2.2) (mvn fc (mvc oc cur) cur F O).1 (nI (moc oc cur)) (ov + nI (mvc oc cur)) (mvn fc (mvc oc cur) cur F O).2.1)) (rest := []) ⟨hx, hb, hml, hown, ht⟩ (c_M_isMigrating l D cA h hf a b (mcu oc cur) cnt fc (moc oc cur) wk (fv + nI (mvn fc (mvc oc cur) cur F O).2.2) (ov + nI (mvc oc cur)) (mvn fc (mvc oc cur) cur F O).1 (mvn fc (mvc oc cur) cur F O).2.1 hmm.1 (by omega)) gv_M_47 (by decide +kernel) rfl ⟨Nat.le_of_ble_eq_true rfl, Nat.le_of_ble_eq_true rfl⟩ hk hP hD hS hA [0, 1, 2, 3, 4, 5, 6, 7, 8] [] [0, 1, 2, 3, 4, 5, 6, 7, 8] rfl rfl (fun _ => rfl) ⟨rfl, rfl, rfl⟩ (by decide) rfl rfl hl.1 rfl (Nat.le_of_ble_eq_true rfl) d_M_settle_12 ⟨Nat.zero_le _, Nat.zero_le _⟩ (fun r u H locs hp hP hD hS => ?_)
    have hp : r = (if mcu oc cur < moc oc cur then 1 else 0) := hp
    subst hp
    have hP : va_P D classes (wM h hf a.1 b.1 a b cA (nI (mcu oc cur)) (nI cnt) wk (nI fc) (fv + nI (mvn fc (mvc oc cur) cur F O).2.2) (mvn fc (mvc oc cur) cur F O).1 (nI (moc oc cur)) (ov + nI (mvc oc cur)) (mvn fc (mvc oc cur) cur F O).2.1) H := hP
    have hD : va_D A (wM h hf a.1 b.1 a b cA (nI (mcu oc cur)) (nI cnt) wk (nI fc) (fv + nI (mvn fc (mvc oc cur) cur F O).2.2) (mvn fc (mvc oc cur) cur F O).1 (nI (moc oc cur)) (ov + nI (mvc oc cur)) (mvn fc (mvc oc cur) cur F O).2.1) := hD
    by_cases h2 : cur + mvc oc cur < oc
    · skip
      have e1 : moc oc cur = oc := if_pos h2
      have e2 : mcu oc cur = cur + mvc oc cur := if_pos h2
      refine x_top (z := 1) (if10 (by rw [e1, e2]; exact h2)) ?_
      refine lv_if_eq (tgt := 19) hx hb d_M_settle_15 (by decide) (fun c9 => absurd c9 (by decide)) (fun _ => ?_)
      have eS : (stl fc F oc O cur cnt wk) = (fc, (mvn fc (mvc oc cur) cur F O).1, oc, (mvn fc (mvc oc cur) cur F O).2.1, cur + mvc oc cur, cnt, wk) := by unfold stl; rw [if_pos h1, if_pos h2]
      rw [e1, e2] at hP hD
      have hP : va_P D classes (wS h hf a b cA (stl fc F oc O cur cnt wk) (fv + nI (mvn fc (mvc oc cur) cur F O).2.2) (ov + nI (mvc oc cur))) H := by rw [eS]; exact hP
      have hD : va_D A (wS h hf a b cA (stl fc F oc O cur cnt wk) (fv + nI (mvn fc (mvc oc cur) cur F O).2.2) (ov + nI (mvc oc cur))) := by rw [eS]; exact hD
      exact hret _ _ _ _ _ (a, b, fv + nI (mvn fc (mvc oc cur) cur F O).2.2, ov + nI (mvc oc cur)) d_M_settle_18 hP hD hS (eW) rfl
    · skip
      have e1 : moc oc cur = 0 := if_neg h2
      have e2 : mcu oc cur = 0 := if_neg h2
      refine x_top (z := 0) (if00 (by rw [e1, e2]; exact Nat.lt_irrefl 0)) ?_
      refine lv_if_eq (tgt := 19) hx hb d_M_settle_15 (by decide) (fun _ => ?_) (fun c9 => absurd (rfl) c9)
      rw [e1, e2] at hP hD
      exact sec (hg1 h1 h2) _ _ _ _ _ _ _ hP hD hS hl (by unfold stl; rw [if_pos h1, if_neg h2]) eW
  · skip
    refine x_top (z := 0) (if00 h1) ?_
    refine lv_if_eq (tgt := 11) hx hb d_M_settle_4 (by decide) (fun _ => ?_) (fun c9 => absurd (rfl) c9)
    refine lv_aload_n hx hb d_M_settle_11 rfl (lv_at hl 0 rfl) ?_
    refine xV_i (D := D) (k := 0) (ci := 0) (q := ("StepMap", F_M, 6)) (wr := []) (wb := fun u => (wM h hf a.1 b.1 a b cA (nI cur) (nI cnt) wk (nI fc) fv F (nI oc) ov O)) (rest := []) ⟨hx, hb, hml, hown, ht⟩ (c_M_isMigrating l D cA h hf a b cur cnt fc oc wk fv ov F O hcu (by omega)) gv_M_47 (by decide +kernel) rfl ⟨Nat.le_of_ble_eq_true rfl, Nat.le_of_ble_eq_true rfl⟩ hk hP hD hS hA [0, 1, 2, 3, 4, 5, 6, 7, 8] [] [0, 1, 2, 3, 4, 5, 6, 7, 8] rfl rfl (fun _ => rfl) ⟨rfl, rfl, rfl⟩ (by decide) rfl rfl hl.1 rfl (Nat.le_of_ble_eq_true rfl) d_M_settle_12 ⟨Nat.zero_le _, Nat.zero_le _⟩ (fun r u H locs hp hP hD hS => ?_)
    have hp : r = (if cur < oc then 1 else 0) := hp
    subst hp
    have hP : va_P D classes (wM h hf a.1 b.1 a b cA (nI cur) (nI cnt) wk (nI fc) fv F (nI oc) ov O) H := hP
    have hD : va_D A (wM h hf a.1 b.1 a b cA (nI cur) (nI cnt) wk (nI fc) fv F (nI oc) ov O) := hD
    refine x_top (z := 0) (if00 h1) ?_
    refine lv_if_eq (tgt := 19) hx hb d_M_settle_15 (by decide) (fun _ => ?_) (fun c9 => absurd (rfl) c9)
    obtain ⟨g1, g2, g3⟩ := hg2 h1
    rw [g2, g3] at hP hD
    exact sec g1 F O fv ov _ _ _ hP hD hS hl (by unfold stl; rw [if_neg h1]) (by rw [hw]; unfold stw; rw [if_neg h1])
end
section
theorem Iv.bounds {hf fc : Nat} {F : Tb} {oc : Nat} {O : Tb} {cur cnt : Nat} (h : Iv hf fc F oc O cur cnt) : hf ≤ 1024 ∧ fc ≤ hf ∧ 8 ≤ fc ∧ cur ≤ oc ∧ oc ≤ hf ∧ cnt ≤ 1023 := by
  have hl := h.cnt_lt
  obtain ⟨h1, h2, h3, h4, h5, h6, h7⟩ := h
  have := h1.le
  have := h2.ge
  have := h2.le
  rcases h7 with ⟨g1, g2, g3, g4⟩ | ⟨g1, g2, g3, g4, g5, g6, g7⟩
  · refine ⟨by omega, by omega, by omega, by omega, by omega, by omega⟩
  · refine ⟨by omega, by omega, by omega, by omega, by omega, by omega⟩
theorem wkc_1 {fc : Nat} {F : Tb} {oc : Nat} {O : Tb} {cur : Nat} {k : Int32} (h : F.2.2 (fsl fc F k) = 1) : 0 + nI (fct fc F k) + 0 = nI (wkc fc F oc O cur k) := by
  unfold wkc
  rw [if_pos h, i0a, ia0]
theorem wkc_0 {fc : Nat} {F : Tb} {oc : Nat} {O : Tb} {cur : Nat} {k : Int32} (h : ¬ F.2.2 (fsl fc F k) = 1) : 0 + nI (fct fc F k) + (0 + nI (if cur < oc then fct oc O k else 0)) = nI (wkc fc F oc O cur k) := by
  unfold wkc
  rw [if_neg h, i0a, i0a, nI_add]
theorem nI_n0 {n : Nat} (h : n ≤ 1024) : ¬ nI n < 0 := nI_pos (by omega)
set_option maxHeartbeats 4000000 in
set_option maxRecDepth 100000 in
theorem c_M_get (l : Launch) (D : va_G) (cA : ClassId) (h hf : Nat) (a b : Ad) (cur cnt fc oc : Nat) (wk fv ov : Int32) (F O : Tb) (k : Int32) (hiv : Iv hf fc F oc O cur cnt) : Mi l D [(cA, .int)] y_M_get b_M_get 4 (some .int) 4 86 [.ref h, .int k] (wM h hf a.1 b.1 a b cA (nI cur) (nI cnt) wk (nI fc) fv F (nI oc) ov O) (fun r (u : Uu) => r = ogetA fc F oc O cur k) (fun u => wS h hf u.1 u.2.1 cA (fc, F, oc, O, cur, cnt, nI (wkc fc F oc O cur k)) u.2.2.1 u.2.2.2) := by
  refine mi_start (own := "StepMap") (by decide +kernel) rfl (Nat.le_of_ble_eq_true rfl) ?_
  intro p e s m args below meth cd ls A Q hx hb hml hown ht hk hP hD hA hl hret
  have hS : va_S A s.heap s.heap [] := va_S.rf
  have hl : lv_has ls 4 [(0, .ref h), (1, .int k)] := hl
  obtain ⟨hh, hfh, hf8, hcu, ho, hct⟩ := hiv.bounds
  have hpf := hiv.2.1
  have hfo := hiv.lk k
  have hsl := (fsl_spec hpf hfo).1
  have hlk : cur < oc → pw oc ∧ oc ≤ hf ∧ fok oc O k := fun z => ⟨(hiv.old z).1, ho, hiv.lkO z k⟩
  refine lv_aload_n hx hb d_M_get_0 rfl (lv_at hl 0 rfl) ?_
  refine xV_v (D := D) (k := 0) (ci := 0) (q := ("StepMap", F_M, 6)) (wr := []) (wb := fun u => (wM h hf a.1 b.1 a b cA (nI cur) (nI cnt) wk (nI fc) 0 F (nI oc) 0 O)) (rest := []) ⟨hx, hb, hml, hown, ht⟩ (c_M_begin l D cA h hf a b cur cnt fc oc wk fv ov F O) gv_M_85 (by decide +kernel) rfl ⟨Nat.le_of_ble_eq_true rfl, Nat.le_of_ble_eq_true rfl⟩ hk hP hD hS hA [0, 1, 2, 3, 4, 5, 6, 7, 8] [] [0, 1, 2, 3, 4, 5, 6, 7, 8] rfl rfl (fun _ => rfl) ⟨rfl, rfl, rfl⟩ (by decide) rfl rfl hl.1 rfl (Nat.le_of_ble_eq_true rfl) d_M_get_1 ⟨Nat.zero_le _, Nat.zero_le _⟩ (fun u H locs hp hP hD hS => ?_)
  have hP : va_P D classes (wM h hf a.1 b.1 a b cA (nI cur) (nI cnt) wk (nI fc) 0 F (nI oc) 0 O) H := hP
  have hD : va_D A (wM h hf a.1 b.1 a b cA (nI cur) (nI cnt) wk (nI fc) 0 F (nI oc) 0 O) := hD
  refine lv_aload_n hx hb d_M_get_4 rfl (lv_at hl 0 rfl) ?_
  refine va_get (D := D) (cl := classes) (ci := 0) (v := .ref a.1) (C := "StepMap") (T := F_M) (N := 6) hx hb ht i_M hown hk.1 hP 0 rfl rfl 1 (by decide) (ht _ mw_1_49) (fun _ h9 => h9) rfl d_M_get_5 ?_
  refine lv_iload_n hx hb d_M_get_8 rfl (lv_at hl 1 rfl) ?_
  refine xV_i (D := D) (k := 1) (ci := 1) (q := ("StepMap$Table", F_T, 5)) (wr := ((h, .inr (0, [.int (nI hf), .ref a.1, .ref b.1, .int (nI cur), .int (nI cnt), .int wk])) :: (wT b cA hf (nI oc) 0 O))) (wb := fun u => (wM h hf a.1 b.1 a b cA (nI cur) (nI cnt) wk (nI fc) (0 + nI (fct fc F k)) F (nI oc) 0 O)) (rest := []) ⟨hx, hb, hml, hown, ht⟩ (c_T_find l D cA a hf fc 0 F k hpf hfh hh hfo) gv_M_51 (by decide +kernel) rfl ⟨Nat.le_of_ble_eq_true rfl, Nat.le_of_ble_eq_true rfl⟩ hk hP hD hS hA [1, 2, 3, 4] [0, 5, 6, 7, 8] [0, 5, 6, 7, 8, 1, 2, 3, 4] rfl rfl (fun _ => rfl) ⟨rfl, rfl, rfl⟩ (by decide) rfl rfl hl.1 rfl (Nat.le_of_ble_eq_true rfl) d_M_get_9 ⟨Nat.zero_le _, Nat.zero_le _⟩ (fun r u H locs hp hP hD hS => ?_)
  have hp : r = (nI (fsl fc F k)) := hp
  subst hp
  have hP : va_P D classes (wM h hf a.1 b.1 a b cA (nI cur) (nI cnt) wk (nI fc) (0 + nI (fct fc F k)) F (nI oc) 0 O) H := hP
  have hD : va_D A (wM h hf a.1 b.1 a b cA (nI cur) (nI cnt) wk (nI fc) (0 + nI (fct fc F k)) F (nI oc) 0 O) := hD
  refine lv_istore_n (lv' := [(2, .int (nI (fsl fc F k))), (0, .ref h), (1, .int k)]) hx hb d_M_get_12 rfl hl (by decide) rfl (fun ls hl => ?_)
  refine lv_aload_n hx hb d_M_get_13 rfl (lv_at hl 1 rfl) ?_
  refine va_get (D := D) (cl := classes) (ci := 0) (v := .ref a.1) (C := "StepMap") (T := F_M) (N := 6) hx hb ht i_M hown hk.1 hP 0 rfl rfl 1 (by decide) (ht _ mw_1_49) (fun _ h9 => h9) rfl d_M_get_14 ?_
  refine lv_iload_n hx hb d_M_get_17 rfl (lv_at hl 0 rfl) ?_
  refine xV_i (D := D) (k := 1) (ci := 1) (q := ("StepMap$Table", F_T, 5)) (wr := ((h, .inr (0, [.int (nI hf), .ref a.1, .ref b.1, .int (nI cur), .int (nI cnt), .int wk])) :: (wT b cA hf (nI oc) 0 O))) (wb := fun u => (wM h hf a.1 b.1 a b cA (nI cur) (nI cnt) wk (nI fc) (0 + nI (fct fc F k)) F (nI oc) 0 O)) (rest := []) ⟨hx, hb, hml, hown, ht⟩ (c_T_holds l D cA a hf fc (0 + nI (fct fc F k)) F (fsl fc F k) hh (by omega)) gv_M_55 (by decide +kernel) rfl ⟨Nat.le_of_ble_eq_true rfl, Nat.le_of_ble_eq_true rfl⟩ hk hP hD hS hA [1, 2, 3, 4] [0, 5, 6, 7, 8] [0, 5, 6, 7, 8, 1, 2, 3, 4] rfl rfl (fun _ => rfl) ⟨rfl, rfl, rfl⟩ (by decide) rfl rfl hl.1 rfl (Nat.le_of_ble_eq_true rfl) d_M_get_18 ⟨Nat.zero_le _, Nat.zero_le _⟩ (fun r u H locs hp hP hD hS => ?_)
  have hp : r = (if F.2.2 (fsl fc F k) = 1 then 1 else 0) := hp
  subst hp
  have hP : va_P D classes (wM h hf a.1 b.1 a b cA (nI cur) (nI cnt) wk (nI fc) (0 + nI (fct fc F k)) F (nI oc) 0 O) H := hP
  have hD : va_D A (wM h hf a.1 b.1 a b cA (nI cur) (nI cnt) wk (nI fc) (0 + nI (fct fc F k)) F (nI oc) 0 O) := hD
  by_cases h1 : F.2.2 (fsl fc F k) = 1
  · skip
    refine x_top (z := 1) (if10 h1) ?_
    refine lv_if_eq (tgt := 28) hx hb d_M_get_21 (by decide) (fun c9 => absurd c9 (by decide)) (fun _ => ?_)
    refine lv_iconst (v := (-1)) hx hb d_M_get_24 (by decide) ?_
    refine lv_goto (tgt := 33) hx hb d_M_get_25 (by decide) ?_
    refine lv_istore_n (lv' := [(3, .int (-1)), (2, .int (nI (fsl fc F k))), (0, .ref h), (1, .int k)]) hx hb d_M_get_33 rfl hl (by decide) rfl (fun ls hl => ?_)
    refine lv_aload_n hx hb d_M_get_34 rfl (lv_at hl 2 rfl) ?_
    refine xV_v (D := D) (k := 0) (ci := 0) (q := ("StepMap", F_M, 6)) (wr := []) (wb := fun u => (wM h hf a.1 b.1 a b cA (nI cur) (nI cnt) ((0 + nI (fct fc F k)) + 0) (nI fc) (0 + nI (fct fc F k)) F (nI oc) 0 O)) (rest := []) ⟨hx, hb, hml, hown, ht⟩ (c_M_end l D cA h hf a b cur cnt fc oc wk (0 + nI (fct fc F k)) 0 F O) gv_M_98 (by decide +kernel) rfl ⟨Nat.le_of_ble_eq_true rfl, Nat.le_of_ble_eq_true rfl⟩ hk hP hD hS hA [0, 1, 2, 3, 4, 5, 6, 7, 8] [] [0, 1, 2, 3, 4, 5, 6, 7, 8] rfl rfl (fun _ => rfl) ⟨rfl, rfl, rfl⟩ (by decide) rfl rfl hl.1 rfl (Nat.le_of_ble_eq_true rfl) d_M_get_35 ⟨Nat.zero_le _, Nat.zero_le _⟩ (fun u H locs hp hP hD hS => ?_)
    have hP : va_P D classes (wM h hf a.1 b.1 a b cA (nI cur) (nI cnt) ((0 + nI (fct fc F k)) + 0) (nI fc) (0 + nI (fct fc F k)) F (nI oc) 0 O) H := hP
    have hD : va_D A (wM h hf a.1 b.1 a b cA (nI cur) (nI cnt) ((0 + nI (fct fc F k)) + 0) (nI fc) (0 + nI (fct fc F k)) F (nI oc) 0 O) := hD
    refine lv_aload_n hx hb d_M_get_38 rfl (lv_at hl 2 rfl) ?_
    refine va_get (D := D) (cl := classes) (ci := 0) (v := .ref a.1) (C := "StepMap") (T := F_M) (N := 6) hx hb ht i_M hown hk.1 hP 0 rfl rfl 1 (by decide) (ht _ mw_1_49) (fun _ h9 => h9) rfl d_M_get_39 ?_
    refine lv_iload_n hx hb d_M_get_42 rfl (lv_at hl 1 rfl) ?_
    refine xV_i (D := D) (k := 1) (ci := 1) (q := ("StepMap$Table", F_T, 5)) (wr := ((h, .inr (0, [.int (nI hf), .ref a.1, .ref b.1, .int (nI cur), .int (nI cnt), .int ((0 + nI (fct fc F k)) + 0)])) :: (wT b cA hf (nI oc) 0 O))) (wb := fun u => (wM h hf a.1 b.1 a b cA (nI cur) (nI cnt) ((0 + nI (fct fc F k)) + 0) (nI fc) (0 + nI (fct fc F k)) F (nI oc) 0 O)) (rest := []) ⟨hx, hb, hml, hown, ht⟩ (c_T_holds l D cA a hf fc (0 + nI (fct fc F k)) F (fsl fc F k) hh (by omega)) gv_M_55 (by decide +kernel) rfl ⟨Nat.le_of_ble_eq_true rfl, Nat.le_of_ble_eq_true rfl⟩ hk hP hD hS hA [1, 2, 3, 4] [0, 5, 6, 7, 8] [0, 5, 6, 7, 8, 1, 2, 3, 4] rfl rfl (fun _ => rfl) ⟨rfl, rfl, rfl⟩ (by decide) rfl rfl hl.1 rfl (Nat.le_of_ble_eq_true rfl) d_M_get_43 ⟨Nat.zero_le _, Nat.zero_le _⟩ (fun r u H locs hp hP hD hS => ?_)
    have hp : r = (if F.2.2 (fsl fc F k) = 1 then 1 else 0) := hp
    subst hp
    have hP : va_P D classes (wM h hf a.1 b.1 a b cA (nI cur) (nI cnt) ((0 + nI (fct fc F k)) + 0) (nI fc) (0 + nI (fct fc F k)) F (nI oc) 0 O) H := hP
    have hD : va_D A (wM h hf a.1 b.1 a b cA (nI cur) (nI cnt) ((0 + nI (fct fc F k)) + 0) (nI fc) (0 + nI (fct fc F k)) F (nI oc) 0 O) := hD
    refine x_top (z := 1) (if10 h1) ?_
    refine lv_if_eq (tgt := 61) hx hb d_M_get_46 (by decide) (fun c9 => absurd c9 (by decide)) (fun _ => ?_)
    refine lv_aload_n hx hb d_M_get_49 rfl (lv_at hl 2 rfl) ?_
    refine va_get (D := D) (cl := classes) (ci := 0) (v := .ref a.1) (C := "StepMap") (T := F_M) (N := 6) hx hb ht i_M hown hk.1 hP 0 rfl rfl 1 (by decide) (ht _ mw_1_49) (fun _ h9 => h9) rfl d_M_get_50 ?_
    refine va_getN (D := D) (cl := classes) (ci := 1) (v := .ref a.2.2.1) (C := "StepMap$Table") (T := F_T) (N := 5) hx hb ht i_T hown hk.1 hP 1 rfl rfl 1 (by decide) (va_Nw.use rfl hk.2.2.1) (fun _ h9 => h9) rfl d_M_get_53 ?_
    refine lv_iload_n hx hb d_M_get_56 rfl (lv_at hl 1 rfl) ?_
    refine x_ald hx hb hk hP 3 0 rfl rfl (i := (fsl fc F k)) (by omega) (by omega) d_M_get_57 ?_
    refine lv_goto (tgt := 78) hx hb d_M_get_58 (by decide) ?_
    have eS : (fc, F, oc, O, cur, cnt, nI (wkc fc F oc O cur k)) = (fc, F, oc, O, cur, cnt, nI (wkc fc F oc O cur k)) := by rfl
    rw [wkc_1 (oc := oc) (O := O) (cur := cur) h1] at hP hD
    have hP : va_P D classes (wS h hf a b cA (fc, F, oc, O, cur, cnt, nI (wkc fc F oc O cur k)) (0 + nI (fct fc F k)) 0) H := by rw [eS]; exact hP
    have hD : va_D A (wS h hf a b cA (fc, F, oc, O, cur, cnt, nI (wkc fc F oc O cur k)) (0 + nI (fct fc F k)) 0) := by rw [eS]; exact hD
    exact hret _ _ _ _ _ _ (a, b, (0 + nI (fct fc F k)), 0) d_M_get_78 hP hD hS (by unfold ogetA; rw [if_pos h1]) rfl
  · skip
    refine x_top (z := 0) (if00 h1) ?_
    refine lv_if_eq (tgt := 28) hx hb d_M_get_21 (by decide) (fun _ => ?_) (fun c9 => absurd (rfl) c9)
    refine lv_aload_n hx hb d_M_get_28 rfl (lv_at hl 1 rfl) ?_
    refine lv_iload_n hx hb d_M_get_29 rfl (lv_at hl 2 rfl) ?_
    refine xV_i (D := D) (k := 1) (ci := 0) (q := ("StepMap", F_M, 6)) (wr := []) (wb := fun u => (wM h hf a.1 b.1 a b cA (nI cur) (nI cnt) wk (nI fc) (0 + nI (fct fc F k)) F (nI oc) (0 + nI (if cur < oc then fct oc O k else 0)) O)) (rest := []) ⟨hx, hb, hml, hown, ht⟩ (c_M_findOld l D cA h hf a b cur cnt fc oc wk (0 + nI (fct fc F k)) 0 F O k hcu (by omega) hh hlk) gv_M_88 (by decide +kernel) rfl ⟨Nat.le_of_ble_eq_true rfl, Nat.le_of_ble_eq_true rfl⟩ hk hP hD hS hA [0, 1, 2, 3, 4, 5, 6, 7, 8] [] [0, 1, 2, 3, 4, 5, 6, 7, 8] rfl rfl (fun _ => rfl) ⟨rfl, rfl, rfl⟩ (by decide) rfl rfl hl.1 rfl (Nat.le_of_ble_eq_true rfl) d_M_get_30 ⟨Nat.zero_le _, Nat.zero_le _⟩ (fun r u H locs hp hP hD hS => ?_)
    have hp : r = (if inO oc O cur k then nI (fsl oc O k) else -1) := hp
    subst hp
    have hP : va_P D classes (wM h hf a.1 b.1 a b cA (nI cur) (nI cnt) wk (nI fc) (0 + nI (fct fc F k)) F (nI oc) (0 + nI (if cur < oc then fct oc O k else 0)) O) H := hP
    have hD : va_D A (wM h hf a.1 b.1 a b cA (nI cur) (nI cnt) wk (nI fc) (0 + nI (fct fc F k)) F (nI oc) (0 + nI (if cur < oc then fct oc O k else 0)) O) := hD
    refine lv_istore_n (lv' := [(3, .int (if inO oc O cur k then nI (fsl oc O k) else -1)), (2, .int (nI (fsl fc F k))), (0, .ref h), (1, .int k)]) hx hb d_M_get_33 rfl hl (by decide) rfl (fun ls hl => ?_)
    refine lv_aload_n hx hb d_M_get_34 rfl (lv_at hl 2 rfl) ?_
    refine xV_v (D := D) (k := 0) (ci := 0) (q := ("StepMap", F_M, 6)) (wr := []) (wb := fun u => (wM h hf a.1 b.1 a b cA (nI cur) (nI cnt) ((0 + nI (fct fc F k)) + (0 + nI (if cur < oc then fct oc O k else 0))) (nI fc) (0 + nI (fct fc F k)) F (nI oc) (0 + nI (if cur < oc then fct oc O k else 0)) O)) (rest := []) ⟨hx, hb, hml, hown, ht⟩ (c_M_end l D cA h hf a b cur cnt fc oc wk (0 + nI (fct fc F k)) (0 + nI (if cur < oc then fct oc O k else 0)) F O) gv_M_98 (by decide +kernel) rfl ⟨Nat.le_of_ble_eq_true rfl, Nat.le_of_ble_eq_true rfl⟩ hk hP hD hS hA [0, 1, 2, 3, 4, 5, 6, 7, 8] [] [0, 1, 2, 3, 4, 5, 6, 7, 8] rfl rfl (fun _ => rfl) ⟨rfl, rfl, rfl⟩ (by decide) rfl rfl hl.1 rfl (Nat.le_of_ble_eq_true rfl) d_M_get_35 ⟨Nat.zero_le _, Nat.zero_le _⟩ (fun u H locs hp hP hD hS => ?_)
    have hP : va_P D classes (wM h hf a.1 b.1 a b cA (nI cur) (nI cnt) ((0 + nI (fct fc F k)) + (0 + nI (if cur < oc then fct oc O k else 0))) (nI fc) (0 + nI (fct fc F k)) F (nI oc) (0 + nI (if cur < oc then fct oc O k else 0)) O) H := hP
    have hD : va_D A (wM h hf a.1 b.1 a b cA (nI cur) (nI cnt) ((0 + nI (fct fc F k)) + (0 + nI (if cur < oc then fct oc O k else 0))) (nI fc) (0 + nI (fct fc F k)) F (nI oc) (0 + nI (if cur < oc then fct oc O k else 0)) O) := hD
    refine lv_aload_n hx hb d_M_get_38 rfl (lv_at hl 2 rfl) ?_
    refine va_get (D := D) (cl := classes) (ci := 0) (v := .ref a.1) (C := "StepMap") (T := F_M) (N := 6) hx hb ht i_M hown hk.1 hP 0 rfl rfl 1 (by decide) (ht _ mw_1_49) (fun _ h9 => h9) rfl d_M_get_39 ?_
    refine lv_iload_n hx hb d_M_get_42 rfl (lv_at hl 1 rfl) ?_
    refine xV_i (D := D) (k := 1) (ci := 1) (q := ("StepMap$Table", F_T, 5)) (wr := ((h, .inr (0, [.int (nI hf), .ref a.1, .ref b.1, .int (nI cur), .int (nI cnt), .int ((0 + nI (fct fc F k)) + (0 + nI (if cur < oc then fct oc O k else 0)))])) :: (wT b cA hf (nI oc) (0 + nI (if cur < oc then fct oc O k else 0)) O))) (wb := fun u => (wM h hf a.1 b.1 a b cA (nI cur) (nI cnt) ((0 + nI (fct fc F k)) + (0 + nI (if cur < oc then fct oc O k else 0))) (nI fc) (0 + nI (fct fc F k)) F (nI oc) (0 + nI (if cur < oc then fct oc O k else 0)) O)) (rest := []) ⟨hx, hb, hml, hown, ht⟩ (c_T_holds l D cA a hf fc (0 + nI (fct fc F k)) F (fsl fc F k) hh (by omega)) gv_M_55 (by decide +kernel) rfl ⟨Nat.le_of_ble_eq_true rfl, Nat.le_of_ble_eq_true rfl⟩ hk hP hD hS hA [1, 2, 3, 4] [0, 5, 6, 7, 8] [0, 5, 6, 7, 8, 1, 2, 3, 4] rfl rfl (fun _ => rfl) ⟨rfl, rfl, rfl⟩ (by decide) rfl rfl hl.1 rfl (Nat.le_of_ble_eq_true rfl) d_M_get_43 ⟨Nat.zero_le _, Nat.zero_le _⟩ (fun r u H locs hp hP hD hS => ?_)
    have hp : r = (if F.2.2 (fsl fc F k) = 1 then 1 else 0) := hp
    subst hp
    have hP : va_P D classes (wM h hf a.1 b.1 a b cA (nI cur) (nI cnt) ((0 + nI (fct fc F k)) + (0 + nI (if cur < oc then fct oc O k else 0))) (nI fc) (0 + nI (fct fc F k)) F (nI oc) (0 + nI (if cur < oc then fct oc O k else 0)) O) H := hP
    have hD : va_D A (wM h hf a.1 b.1 a b cA (nI cur) (nI cnt) ((0 + nI (fct fc F k)) + (0 + nI (if cur < oc then fct oc O k else 0))) (nI fc) (0 + nI (fct fc F k)) F (nI oc) (0 + nI (if cur < oc then fct oc O k else 0)) O) := hD
    refine x_top (z := 0) (if00 h1) ?_
    refine lv_if_eq (tgt := 61) hx hb d_M_get_46 (by decide) (fun _ => ?_) (fun c9 => absurd (rfl) c9)
    by_cases h2 : inO oc O cur k
    · skip
      have hoo := hlk h2.1
      have hso := (fsl_spec hoo.1 hoo.2.2).1
      refine lv_iload_n hx hb d_M_get_61 rfl (lv_at hl 0 rfl) ?_
      refine x_top (z := (nI (fsl oc O k))) (if_pos h2) ?_
      refine lv_if_ge (tgt := 69) hx hb d_M_get_62 (by decide) (fun _ => ?_) (fun c9 => absurd (nI_pos' (by omega)) c9)
      refine lv_aload_n hx hb d_M_get_69 rfl (lv_at hl 2 rfl) ?_
      refine va_get (D := D) (cl := classes) (ci := 0) (v := .ref b.1) (C := "StepMap") (T := F_M) (N := 6) hx hb ht i_M hown hk.1 hP 0 rfl rfl 2 (by decide) (ht _ mw_1_50) (fun _ h9 => h9) rfl d_M_get_70 ?_
      refine va_getN (D := D) (cl := classes) (ci := 1) (v := .ref b.2.2.1) (C := "StepMap$Table") (T := F_T) (N := 5) hx hb ht i_T hown hk.1 hP 5 rfl rfl 1 (by decide) (va_Nw.use rfl hk.2.2.1) (fun _ h9 => h9) rfl d_M_get_73 ?_
      refine lv_iload_n hx hb d_M_get_76 rfl (lv_at hl 0 rfl) ?_
      refine x_top (z := (nI (fsl oc O k))) (if_pos h2) ?_
      refine x_ald hx hb hk hP 7 0 rfl rfl (i := (fsl oc O k)) (by omega) (by omega) d_M_get_77 ?_
      have eS : (fc, F, oc, O, cur, cnt, nI (wkc fc F oc O cur k)) = (fc, F, oc, O, cur, cnt, nI (wkc fc F oc O cur k)) := by rfl
      rw [wkc_0 (oc := oc) (O := O) (cur := cur) h1] at hP hD
      have hP : va_P D classes (wS h hf a b cA (fc, F, oc, O, cur, cnt, nI (wkc fc F oc O cur k)) (0 + nI (fct fc F k)) (0 + nI (if cur < oc then fct oc O k else 0))) H := by rw [eS]; exact hP
      have hD : va_D A (wS h hf a b cA (fc, F, oc, O, cur, cnt, nI (wkc fc F oc O cur k)) (0 + nI (fct fc F k)) (0 + nI (if cur < oc then fct oc O k else 0))) := by rw [eS]; exact hD
      exact hret _ _ _ _ _ _ (a, b, (0 + nI (fct fc F k)), (0 + nI (if cur < oc then fct oc O k else 0))) d_M_get_78 hP hD hS (by unfold ogetA; rw [if_neg h1, if_pos h2]) rfl
    · skip
      refine lv_iload_n hx hb d_M_get_61 rfl (lv_at hl 0 rfl) ?_
      refine x_top (z := (-1)) (if_neg h2) ?_
      refine lv_if_ge (tgt := 69) hx hb d_M_get_62 (by decide) (fun c9 => absurd c9 (by decide)) (fun _ => ?_)
      refine lv_iconst (v := 0) hx hb d_M_get_65 (by decide) ?_
      refine lv_goto (tgt := 78) hx hb d_M_get_66 (by decide) ?_
      have eS : (fc, F, oc, O, cur, cnt, nI (wkc fc F oc O cur k)) = (fc, F, oc, O, cur, cnt, nI (wkc fc F oc O cur k)) := by rfl
      rw [wkc_0 (oc := oc) (O := O) (cur := cur) h1] at hP hD
      have hP : va_P D classes (wS h hf a b cA (fc, F, oc, O, cur, cnt, nI (wkc fc F oc O cur k)) (0 + nI (fct fc F k)) (0 + nI (if cur < oc then fct oc O k else 0))) H := by rw [eS]; exact hP
      have hD : va_D A (wS h hf a b cA (fc, F, oc, O, cur, cnt, nI (wkc fc F oc O cur k)) (0 + nI (fct fc F k)) (0 + nI (if cur < oc then fct oc O k else 0))) := by rw [eS]; exact hD
      exact hret _ _ _ _ _ _ (a, b, (0 + nI (fct fc F k)), (0 + nI (if cur < oc then fct oc O k else 0))) d_M_get_78 hP hD hS (by unfold ogetA; rw [if_neg h1, if_neg h2]) rfl
set_option maxHeartbeats 4000000 in
set_option maxRecDepth 100000 in
theorem c_M_has (l : Launch) (D : va_G) (cA : ClassId) (h hf : Nat) (a b : Ad) (cur cnt fc oc : Nat) (wk fv ov : Int32) (F O : Tb) (k : Int32) (hiv : Iv hf fc F oc O cur cnt) : Mi l D [(cA, .int)] y_M_has b_M_has 3 (some .boolean) 4 86 [.ref h, .int k] (wM h hf a.1 b.1 a b cA (nI cur) (nI cnt) wk (nI fc) fv F (nI oc) ov O) (fun r (u : Uu) => r = oremA fc F oc O cur k) (fun u => wS h hf u.1 u.2.1 cA (fc, F, oc, O, cur, cnt, nI (wkc fc F oc O cur k)) u.2.2.1 u.2.2.2) := by
  refine mz_start (own := "StepMap") (by decide +kernel) rfl (Nat.le_of_ble_eq_true rfl) ?_
  intro p e s m args below meth cd ls A Q hx hb hml hown ht hk hP hD hA hl hret
  have hS : va_S A s.heap s.heap [] := va_S.rf
  have hl : lv_has ls 3 [(0, .ref h), (1, .int k)] := hl
  obtain ⟨hh, hfh, hf8, hcu, ho, hct⟩ := hiv.bounds
  have hpf := hiv.2.1
  have hfo := hiv.lk k
  have hsl := (fsl_spec hpf hfo).1
  have hlk : cur < oc → pw oc ∧ oc ≤ hf ∧ fok oc O k := fun z => ⟨(hiv.old z).1, ho, hiv.lkO z k⟩
  refine lv_aload_n hx hb d_M_has_0 rfl (lv_at hl 0 rfl) ?_
  refine xV_v (D := D) (k := 0) (ci := 0) (q := ("StepMap", F_M, 6)) (wr := []) (wb := fun u => (wM h hf a.1 b.1 a b cA (nI cur) (nI cnt) wk (nI fc) 0 F (nI oc) 0 O)) (rest := []) ⟨hx, hb, hml, hown, ht⟩ (c_M_begin l D cA h hf a b cur cnt fc oc wk fv ov F O) gv_M_85 (by decide +kernel) rfl ⟨Nat.le_of_ble_eq_true rfl, Nat.le_of_ble_eq_true rfl⟩ hk hP hD hS hA [0, 1, 2, 3, 4, 5, 6, 7, 8] [] [0, 1, 2, 3, 4, 5, 6, 7, 8] rfl rfl (fun _ => rfl) ⟨rfl, rfl, rfl⟩ (by decide) rfl rfl hl.1 rfl (Nat.le_of_ble_eq_true rfl) d_M_has_1 ⟨Nat.zero_le _, Nat.zero_le _⟩ (fun u H locs hp hP hD hS => ?_)
  have hP : va_P D classes (wM h hf a.1 b.1 a b cA (nI cur) (nI cnt) wk (nI fc) 0 F (nI oc) 0 O) H := hP
  have hD : va_D A (wM h hf a.1 b.1 a b cA (nI cur) (nI cnt) wk (nI fc) 0 F (nI oc) 0 O) := hD
  refine lv_aload_n hx hb d_M_has_4 rfl (lv_at hl 0 rfl) ?_
  refine va_get (D := D) (cl := classes) (ci := 0) (v := .ref a.1) (C := "StepMap") (T := F_M) (N := 6) hx hb ht i_M hown hk.1 hP 0 rfl rfl 1 (by decide) (ht _ mw_1_49) (fun _ h9 => h9) rfl d_M_has_5 ?_
  refine lv_aload_n hx hb d_M_has_8 rfl (lv_at hl 0 rfl) ?_
  refine va_get (D := D) (cl := classes) (ci := 0) (v := .ref a.1) (C := "StepMap") (T := F_M) (N := 6) hx hb ht i_M hown hk.1 hP 0 rfl rfl 1 (by decide) (ht _ mw_1_49) (fun _ h9 => h9) rfl d_M_has_9 ?_
  refine lv_iload_n hx hb d_M_has_12 rfl (lv_at hl 1 rfl) ?_
  refine xV_i (D := D) (k := 1) (ci := 1) (q := ("StepMap$Table", F_T, 5)) (wr := ((h, .inr (0, [.int (nI hf), .ref a.1, .ref b.1, .int (nI cur), .int (nI cnt), .int wk])) :: (wT b cA hf (nI oc) 0 O))) (wb := fun u => (wM h hf a.1 b.1 a b cA (nI cur) (nI cnt) wk (nI fc) (0 + nI (fct fc F k)) F (nI oc) 0 O)) (rest := [.ref a.1]) ⟨hx, hb, hml, hown, ht⟩ (c_T_find l D cA a hf fc 0 F k hpf hfh hh hfo) gv_M_51 (by decide +kernel) rfl ⟨Nat.le_of_ble_eq_true rfl, Nat.le_of_ble_eq_true rfl⟩ hk hP hD hS hA [1, 2, 3, 4] [0, 5, 6, 7, 8] [0, 5, 6, 7, 8, 1, 2, 3, 4] rfl rfl (fun _ => rfl) ⟨rfl, rfl, rfl⟩ (by decide) rfl rfl hl.1 rfl (Nat.le_of_ble_eq_true rfl) d_M_has_13 ⟨Nat.zero_le _, Nat.zero_le _⟩ (fun r u H locs hp hP hD hS => ?_)
  have hp : r = (nI (fsl fc F k)) := hp
  subst hp
  have hP : va_P D classes (wM h hf a.1 b.1 a b cA (nI cur) (nI cnt) wk (nI fc) (0 + nI (fct fc F k)) F (nI oc) 0 O) H := hP
  have hD : va_D A (wM h hf a.1 b.1 a b cA (nI cur) (nI cnt) wk (nI fc) (0 + nI (fct fc F k)) F (nI oc) 0 O) := hD
  refine xV_i (D := D) (k := 1) (ci := 1) (q := ("StepMap$Table", F_T, 5)) (wr := ((h, .inr (0, [.int (nI hf), .ref a.1, .ref b.1, .int (nI cur), .int (nI cnt), .int wk])) :: (wT b cA hf (nI oc) 0 O))) (wb := fun u => (wM h hf a.1 b.1 a b cA (nI cur) (nI cnt) wk (nI fc) (0 + nI (fct fc F k)) F (nI oc) 0 O)) (rest := []) ⟨hx, hb, hml, hown, ht⟩ (c_T_holds l D cA a hf fc (0 + nI (fct fc F k)) F (fsl fc F k) hh (by omega)) gv_M_55 (by decide +kernel) rfl ⟨Nat.le_of_ble_eq_true rfl, Nat.le_of_ble_eq_true rfl⟩ hk hP hD hS hA [1, 2, 3, 4] [0, 5, 6, 7, 8] [0, 5, 6, 7, 8, 1, 2, 3, 4] rfl rfl (fun _ => rfl) ⟨rfl, rfl, rfl⟩ (by decide) rfl rfl hl.1 rfl (Nat.le_of_ble_eq_true rfl) d_M_has_16 ⟨Nat.zero_le _, Nat.zero_le _⟩ (fun r u H locs hp hP hD hS => ?_)
  have hp : r = (if F.2.2 (fsl fc F k) = 1 then 1 else 0) := hp
  subst hp
  have hP : va_P D classes (wM h hf a.1 b.1 a b cA (nI cur) (nI cnt) wk (nI fc) (0 + nI (fct fc F k)) F (nI oc) 0 O) H := hP
  have hD : va_D A (wM h hf a.1 b.1 a b cA (nI cur) (nI cnt) wk (nI fc) (0 + nI (fct fc F k)) F (nI oc) 0 O) := hD
  by_cases h1 : F.2.2 (fsl fc F k) = 1
  · skip
    refine x_top (z := 1) (if10 h1) ?_
    refine lv_if_ne (tgt := 30) hx hb d_M_has_19 (by decide) (fun _ => ?_) (fun c9 => absurd c9 (by decide))
    refine lv_iconst (v := 1) hx hb d_M_has_30 (by decide) ?_
    refine lv_goto (tgt := 35) hx hb d_M_has_31 (by decide) ?_
    refine lv_istore_n (lv' := [(2, .int 1), (0, .ref h), (1, .int k)]) hx hb d_M_has_35 rfl hl (by decide) rfl (fun ls hl => ?_)
    refine lv_aload_n hx hb d_M_has_36 rfl (lv_at hl 1 rfl) ?_
    refine xV_v (D := D) (k := 0) (ci := 0) (q := ("StepMap", F_M, 6)) (wr := []) (wb := fun u => (wM h hf a.1 b.1 a b cA (nI cur) (nI cnt) ((0 + nI (fct fc F k)) + 0) (nI fc) (0 + nI (fct fc F k)) F (nI oc) 0 O)) (rest := []) ⟨hx, hb, hml, hown, ht⟩ (c_M_end l D cA h hf a b cur cnt fc oc wk (0 + nI (fct fc F k)) 0 F O) gv_M_98 (by decide +kernel) rfl ⟨Nat.le_of_ble_eq_true rfl, Nat.le_of_ble_eq_true rfl⟩ hk hP hD hS hA [0, 1, 2, 3, 4, 5, 6, 7, 8] [] [0, 1, 2, 3, 4, 5, 6, 7, 8] rfl rfl (fun _ => rfl) ⟨rfl, rfl, rfl⟩ (by decide) rfl rfl hl.1 rfl (Nat.le_of_ble_eq_true rfl) d_M_has_37 ⟨Nat.zero_le _, Nat.zero_le _⟩ (fun u H locs hp hP hD hS => ?_)
    have hP : va_P D classes (wM h hf a.1 b.1 a b cA (nI cur) (nI cnt) ((0 + nI (fct fc F k)) + 0) (nI fc) (0 + nI (fct fc F k)) F (nI oc) 0 O) H := hP
    have hD : va_D A (wM h hf a.1 b.1 a b cA (nI cur) (nI cnt) ((0 + nI (fct fc F k)) + 0) (nI fc) (0 + nI (fct fc F k)) F (nI oc) 0 O) := hD
    refine lv_iload_n hx hb d_M_has_40 rfl (lv_at hl 0 rfl) ?_
    have eS : (fc, F, oc, O, cur, cnt, nI (wkc fc F oc O cur k)) = (fc, F, oc, O, cur, cnt, nI (wkc fc F oc O cur k)) := by rfl
    rw [wkc_1 (oc := oc) (O := O) (cur := cur) h1] at hP hD
    have hP : va_P D classes (wS h hf a b cA (fc, F, oc, O, cur, cnt, nI (wkc fc F oc O cur k)) (0 + nI (fct fc F k)) 0) H := by rw [eS]; exact hP
    have hD : va_D A (wS h hf a b cA (fc, F, oc, O, cur, cnt, nI (wkc fc F oc O cur k)) (0 + nI (fct fc F k)) 0) := by rw [eS]; exact hD
    exact hret _ _ _ _ _ _ (a, b, (0 + nI (fct fc F k)), 0) d_M_has_41 (Or.inr rfl) hP hD hS (by unfold oremA; rw [if_pos h1]) rfl
  · skip
    refine x_top (z := 0) (if00 h1) ?_
    refine lv_if_ne (tgt := 30) hx hb d_M_has_19 (by decide) (fun c9 => absurd (rfl) c9) (fun _ => ?_)
    refine lv_aload_n hx hb d_M_has_22 rfl (lv_at hl 0 rfl) ?_
    refine lv_iload_n hx hb d_M_has_23 rfl (lv_at hl 1 rfl) ?_
    refine xV_i (D := D) (k := 1) (ci := 0) (q := ("StepMap", F_M, 6)) (wr := []) (wb := fun u => (wM h hf a.1 b.1 a b cA (nI cur) (nI cnt) wk (nI fc) (0 + nI (fct fc F k)) F (nI oc) (0 + nI (if cur < oc then fct oc O k else 0)) O)) (rest := []) ⟨hx, hb, hml, hown, ht⟩ (c_M_findOld l D cA h hf a b cur cnt fc oc wk (0 + nI (fct fc F k)) 0 F O k hcu (by omega) hh hlk) gv_M_88 (by decide +kernel) rfl ⟨Nat.le_of_ble_eq_true rfl, Nat.le_of_ble_eq_true rfl⟩ hk hP hD hS hA [0, 1, 2, 3, 4, 5, 6, 7, 8] [] [0, 1, 2, 3, 4, 5, 6, 7, 8] rfl rfl (fun _ => rfl) ⟨rfl, rfl, rfl⟩ (by decide) rfl rfl hl.1 rfl (Nat.le_of_ble_eq_true rfl) d_M_has_24 ⟨Nat.zero_le _, Nat.zero_le _⟩ (fun r u H locs hp hP hD hS => ?_)
    have hp : r = (if inO oc O cur k then nI (fsl oc O k) else -1) := hp
    subst hp
    have hP : va_P D classes (wM h hf a.1 b.1 a b cA (nI cur) (nI cnt) wk (nI fc) (0 + nI (fct fc F k)) F (nI oc) (0 + nI (if cur < oc then fct oc O k else 0)) O) H := hP
    have hD : va_D A (wM h hf a.1 b.1 a b cA (nI cur) (nI cnt) wk (nI fc) (0 + nI (fct fc F k)) F (nI oc) (0 + nI (if cur < oc then fct oc O k else 0)) O) := hD
    by_cases h2 : inO oc O cur k
    · skip
      have hoo := hlk h2.1
      have hso := (fsl_spec hoo.1 hoo.2.2).1
      refine x_top (z := (nI (fsl oc O k))) (if_pos h2) ?_
      refine lv_if_lt (tgt := 34) hx hb d_M_has_27 (by decide) (fun c9 => absurd c9 (nI_n0 (by omega))) (fun _ => ?_)
      refine lv_iconst (v := 1) hx hb d_M_has_30 (by decide) ?_
      refine lv_goto (tgt := 35) hx hb d_M_has_31 (by decide) ?_
      refine lv_istore_n (lv' := [(2, .int 1), (0, .ref h), (1, .int k)]) hx hb d_M_has_35 rfl hl (by decide) rfl (fun ls hl => ?_)
      refine lv_aload_n hx hb d_M_has_36 rfl (lv_at hl 1 rfl) ?_
      refine xV_v (D := D) (k := 0) (ci := 0) (q := ("StepMap", F_M, 6)) (wr := []) (wb := fun u => (wM h hf a.1 b.1 a b cA (nI cur) (nI cnt) ((0 + nI (fct fc F k)) + (0 + nI (if cur < oc then fct oc O k else 0))) (nI fc) (0 + nI (fct fc F k)) F (nI oc) (0 + nI (if cur < oc then fct oc O k else 0)) O)) (rest := []) ⟨hx, hb, hml, hown, ht⟩ (c_M_end l D cA h hf a b cur cnt fc oc wk (0 + nI (fct fc F k)) (0 + nI (if cur < oc then fct oc O k else 0)) F O) gv_M_98 (by decide +kernel) rfl ⟨Nat.le_of_ble_eq_true rfl, Nat.le_of_ble_eq_true rfl⟩ hk hP hD hS hA [0, 1, 2, 3, 4, 5, 6, 7, 8] [] [0, 1, 2, 3, 4, 5, 6, 7, 8] rfl rfl (fun _ => rfl) ⟨rfl, rfl, rfl⟩ (by decide) rfl rfl hl.1 rfl (Nat.le_of_ble_eq_true rfl) d_M_has_37 ⟨Nat.zero_le _, Nat.zero_le _⟩ (fun u H locs hp hP hD hS => ?_)
      have hP : va_P D classes (wM h hf a.1 b.1 a b cA (nI cur) (nI cnt) ((0 + nI (fct fc F k)) + (0 + nI (if cur < oc then fct oc O k else 0))) (nI fc) (0 + nI (fct fc F k)) F (nI oc) (0 + nI (if cur < oc then fct oc O k else 0)) O) H := hP
      have hD : va_D A (wM h hf a.1 b.1 a b cA (nI cur) (nI cnt) ((0 + nI (fct fc F k)) + (0 + nI (if cur < oc then fct oc O k else 0))) (nI fc) (0 + nI (fct fc F k)) F (nI oc) (0 + nI (if cur < oc then fct oc O k else 0)) O) := hD
      refine lv_iload_n hx hb d_M_has_40 rfl (lv_at hl 0 rfl) ?_
      have eS : (fc, F, oc, O, cur, cnt, nI (wkc fc F oc O cur k)) = (fc, F, oc, O, cur, cnt, nI (wkc fc F oc O cur k)) := by rfl
      rw [wkc_0 (oc := oc) (O := O) (cur := cur) h1] at hP hD
      have hP : va_P D classes (wS h hf a b cA (fc, F, oc, O, cur, cnt, nI (wkc fc F oc O cur k)) (0 + nI (fct fc F k)) (0 + nI (if cur < oc then fct oc O k else 0))) H := by rw [eS]; exact hP
      have hD : va_D A (wS h hf a b cA (fc, F, oc, O, cur, cnt, nI (wkc fc F oc O cur k)) (0 + nI (fct fc F k)) (0 + nI (if cur < oc then fct oc O k else 0))) := by rw [eS]; exact hD
      exact hret _ _ _ _ _ _ (a, b, (0 + nI (fct fc F k)), (0 + nI (if cur < oc then fct oc O k else 0))) d_M_has_41 (Or.inr rfl) hP hD hS (by unfold oremA; rw [if_neg h1, if_pos h2]) rfl
    · skip
      refine x_top (z := (-1)) (if_neg h2) ?_
      refine lv_if_lt (tgt := 34) hx hb d_M_has_27 (by decide) (fun _ => ?_) (fun c9 => absurd (by decide) c9)
      refine lv_iconst (v := 0) hx hb d_M_has_34 (by decide) ?_
      refine lv_istore_n (lv' := [(2, .int 0), (0, .ref h), (1, .int k)]) hx hb d_M_has_35 rfl hl (by decide) rfl (fun ls hl => ?_)
      refine lv_aload_n hx hb d_M_has_36 rfl (lv_at hl 1 rfl) ?_
      refine xV_v (D := D) (k := 0) (ci := 0) (q := ("StepMap", F_M, 6)) (wr := []) (wb := fun u => (wM h hf a.1 b.1 a b cA (nI cur) (nI cnt) ((0 + nI (fct fc F k)) + (0 + nI (if cur < oc then fct oc O k else 0))) (nI fc) (0 + nI (fct fc F k)) F (nI oc) (0 + nI (if cur < oc then fct oc O k else 0)) O)) (rest := []) ⟨hx, hb, hml, hown, ht⟩ (c_M_end l D cA h hf a b cur cnt fc oc wk (0 + nI (fct fc F k)) (0 + nI (if cur < oc then fct oc O k else 0)) F O) gv_M_98 (by decide +kernel) rfl ⟨Nat.le_of_ble_eq_true rfl, Nat.le_of_ble_eq_true rfl⟩ hk hP hD hS hA [0, 1, 2, 3, 4, 5, 6, 7, 8] [] [0, 1, 2, 3, 4, 5, 6, 7, 8] rfl rfl (fun _ => rfl) ⟨rfl, rfl, rfl⟩ (by decide) rfl rfl hl.1 rfl (Nat.le_of_ble_eq_true rfl) d_M_has_37 ⟨Nat.zero_le _, Nat.zero_le _⟩ (fun u H locs hp hP hD hS => ?_)
      have hP : va_P D classes (wM h hf a.1 b.1 a b cA (nI cur) (nI cnt) ((0 + nI (fct fc F k)) + (0 + nI (if cur < oc then fct oc O k else 0))) (nI fc) (0 + nI (fct fc F k)) F (nI oc) (0 + nI (if cur < oc then fct oc O k else 0)) O) H := hP
      have hD : va_D A (wM h hf a.1 b.1 a b cA (nI cur) (nI cnt) ((0 + nI (fct fc F k)) + (0 + nI (if cur < oc then fct oc O k else 0))) (nI fc) (0 + nI (fct fc F k)) F (nI oc) (0 + nI (if cur < oc then fct oc O k else 0)) O) := hD
      refine lv_iload_n hx hb d_M_has_40 rfl (lv_at hl 0 rfl) ?_
      have eS : (fc, F, oc, O, cur, cnt, nI (wkc fc F oc O cur k)) = (fc, F, oc, O, cur, cnt, nI (wkc fc F oc O cur k)) := by rfl
      rw [wkc_0 (oc := oc) (O := O) (cur := cur) h1] at hP hD
      have hP : va_P D classes (wS h hf a b cA (fc, F, oc, O, cur, cnt, nI (wkc fc F oc O cur k)) (0 + nI (fct fc F k)) (0 + nI (if cur < oc then fct oc O k else 0))) H := by rw [eS]; exact hP
      have hD : va_D A (wS h hf a b cA (fc, F, oc, O, cur, cnt, nI (wkc fc F oc O cur k)) (0 + nI (fct fc F k)) (0 + nI (if cur < oc then fct oc O k else 0))) := by rw [eS]; exact hD
      exact hret _ _ _ _ _ _ (a, b, (0 + nI (fct fc F k)), (0 + nI (if cur < oc then fct oc O k else 0))) d_M_has_41 (Or.inl rfl) hP hD hS (by unfold oremA; rw [if_neg h1, if_neg h2]) rfl
set_option maxHeartbeats 4000000 in
set_option maxRecDepth 100000 in
theorem c_M_slot (l : Launch) (D : va_G) (cA : ClassId) (h hf : Nat) (a b : Ad) (cur cnt fc oc : Nat) (wk fv ov : Int32) (F O : Tb) (k : Int32) (hiv : Iv hf fc F oc O cur cnt) : Mi l D [(cA, .int)] y_M_slot b_M_slot 4 (some .int) 4 86 [.ref h, .int k] (wM h hf a.1 b.1 a b cA (nI cur) (nI cnt) wk (nI fc) fv F (nI oc) ov O) (fun r (u : Uu) => r = oslotA fc F oc O cur k) (fun u => wS h hf u.1 u.2.1 cA (fc, F, oc, O, cur, cnt, wk) u.2.2.1 u.2.2.2) := by
  refine mi_start (own := "StepMap") (by decide +kernel) rfl (Nat.le_of_ble_eq_true rfl) ?_
  intro p e s m args below meth cd ls A Q hx hb hml hown ht hk hP hD hA hl hret
  have hS : va_S A s.heap s.heap [] := va_S.rf
  have hl : lv_has ls 4 [(0, .ref h), (1, .int k)] := hl
  obtain ⟨hh, hfh, hf8, hcu, ho, hct⟩ := hiv.bounds
  have hpf := hiv.2.1
  have hfo := hiv.lk k
  have hsl := (fsl_spec hpf hfo).1
  have hlk : cur < oc → pw oc ∧ oc ≤ hf ∧ fok oc O k := fun z => ⟨(hiv.old z).1, ho, hiv.lkO z k⟩
  refine lv_aload_n hx hb d_M_slot_0 rfl (lv_at hl 0 rfl) ?_
  refine va_get (D := D) (cl := classes) (ci := 0) (v := .ref a.1) (C := "StepMap") (T := F_M) (N := 6) hx hb ht i_M hown hk.1 hP 0 rfl rfl 1 (by decide) (ht _ mw_1_49) (fun _ h9 => h9) rfl d_M_slot_1 ?_
  refine lv_iload_n hx hb d_M_slot_4 rfl (lv_at hl 1 rfl) ?_
  refine xV_i (D := D) (k := 1) (ci := 1) (q := ("StepMap$Table", F_T, 5)) (wr := ((h, .inr (0, [.int (nI hf), .ref a.1, .ref b.1, .int (nI cur), .int (nI cnt), .int wk])) :: (wT b cA hf (nI oc) ov O))) (wb := fun u => (wM h hf a.1 b.1 a b cA (nI cur) (nI cnt) wk (nI fc) (fv + nI (fct fc F k)) F (nI oc) ov O)) (rest := []) ⟨hx, hb, hml, hown, ht⟩ (c_T_find l D cA a hf fc fv F k hpf hfh hh hfo) gv_M_51 (by decide +kernel) rfl ⟨Nat.le_of_ble_eq_true rfl, Nat.le_of_ble_eq_true rfl⟩ hk hP hD hS hA [1, 2, 3, 4] [0, 5, 6, 7, 8] [0, 5, 6, 7, 8, 1, 2, 3, 4] rfl rfl (fun _ => rfl) ⟨rfl, rfl, rfl⟩ (by decide) rfl rfl hl.1 rfl (Nat.le_of_ble_eq_true rfl) d_M_slot_5 ⟨Nat.zero_le _, Nat.zero_le _⟩ (fun r u H locs hp hP hD hS => ?_)
  have hp : r = (nI (fsl fc F k)) := hp
  subst hp
  have hP : va_P D classes (wM h hf a.1 b.1 a b cA (nI cur) (nI cnt) wk (nI fc) (fv + nI (fct fc F k)) F (nI oc) ov O) H := hP
  have hD : va_D A (wM h hf a.1 b.1 a b cA (nI cur) (nI cnt) wk (nI fc) (fv + nI (fct fc F k)) F (nI oc) ov O) := hD
  refine lv_istore_n (lv' := [(2, .int (nI (fsl fc F k))), (0, .ref h), (1, .int k)]) hx hb d_M_slot_8 rfl hl (by decide) rfl (fun ls hl => ?_)
  refine lv_aload_n hx hb d_M_slot_9 rfl (lv_at hl 1 rfl) ?_
  refine va_get (D := D) (cl := classes) (ci := 0) (v := .ref a.1) (C := "StepMap") (T := F_M) (N := 6) hx hb ht i_M hown hk.1 hP 0 rfl rfl 1 (by decide) (ht _ mw_1_49) (fun _ h9 => h9) rfl d_M_slot_10 ?_
  refine lv_iload_n hx hb d_M_slot_13 rfl (lv_at hl 0 rfl) ?_
  refine xV_i (D := D) (k := 1) (ci := 1) (q := ("StepMap$Table", F_T, 5)) (wr := ((h, .inr (0, [.int (nI hf), .ref a.1, .ref b.1, .int (nI cur), .int (nI cnt), .int wk])) :: (wT b cA hf (nI oc) ov O))) (wb := fun u => (wM h hf a.1 b.1 a b cA (nI cur) (nI cnt) wk (nI fc) (fv + nI (fct fc F k)) F (nI oc) ov O)) (rest := []) ⟨hx, hb, hml, hown, ht⟩ (c_T_holds l D cA a hf fc (fv + nI (fct fc F k)) F (fsl fc F k) hh (by omega)) gv_M_55 (by decide +kernel) rfl ⟨Nat.le_of_ble_eq_true rfl, Nat.le_of_ble_eq_true rfl⟩ hk hP hD hS hA [1, 2, 3, 4] [0, 5, 6, 7, 8] [0, 5, 6, 7, 8, 1, 2, 3, 4] rfl rfl (fun _ => rfl) ⟨rfl, rfl, rfl⟩ (by decide) rfl rfl hl.1 rfl (Nat.le_of_ble_eq_true rfl) d_M_slot_14 ⟨Nat.zero_le _, Nat.zero_le _⟩ (fun r u H locs hp hP hD hS => ?_)
  have hp : r = (if F.2.2 (fsl fc F k) = 1 then 1 else 0) := hp
  subst hp
  have hP : va_P D classes (wM h hf a.1 b.1 a b cA (nI cur) (nI cnt) wk (nI fc) (fv + nI (fct fc F k)) F (nI oc) ov O) H := hP
  have hD : va_D A (wM h hf a.1 b.1 a b cA (nI cur) (nI cnt) wk (nI fc) (fv + nI (fct fc F k)) F (nI oc) ov O) := hD
  by_cases h1 : F.2.2 (fsl fc F k) = 1
  · skip
    refine x_top (z := 1) (if10 h1) ?_
    refine lv_if_eq (tgt := 22) hx hb d_M_slot_17 (by decide) (fun c9 => absurd c9 (by decide)) (fun _ => ?_)
    refine lv_iload_n hx hb d_M_slot_20 rfl (lv_at hl 0 rfl) ?_
    exact hret _ _ _ _ _ _ (a, b, (fv + nI (fct fc F k)), ov) d_M_slot_21 hP hD hS (by unfold oslotA; rw [if_pos h1]) rfl
  · skip
    refine x_top (z := 0) (if00 h1) ?_
    refine lv_if_eq (tgt := 22) hx hb d_M_slot_17 (by decide) (fun _ => ?_) (fun c9 => absurd (rfl) c9)
    refine lv_aload_n hx hb d_M_slot_22 rfl (lv_at hl 1 rfl) ?_
    refine lv_iload_n hx hb d_M_slot_23 rfl (lv_at hl 2 rfl) ?_
    refine xV_i (D := D) (k := 1) (ci := 0) (q := ("StepMap", F_M, 6)) (wr := []) (wb := fun u => (wM h hf a.1 b.1 a b cA (nI cur) (nI cnt) wk (nI fc) (fv + nI (fct fc F k)) F (nI oc) (ov + nI (if cur < oc then fct oc O k else 0)) O)) (rest := []) ⟨hx, hb, hml, hown, ht⟩ (c_M_findOld l D cA h hf a b cur cnt fc oc wk (fv + nI (fct fc F k)) ov F O k hcu (by omega) hh hlk) gv_M_88 (by decide +kernel) rfl ⟨Nat.le_of_ble_eq_true rfl, Nat.le_of_ble_eq_true rfl⟩ hk hP hD hS hA [0, 1, 2, 3, 4, 5, 6, 7, 8] [] [0, 1, 2, 3, 4, 5, 6, 7, 8] rfl rfl (fun _ => rfl) ⟨rfl, rfl, rfl⟩ (by decide) rfl rfl hl.1 rfl (Nat.le_of_ble_eq_true rfl) d_M_slot_24 ⟨Nat.zero_le _, Nat.zero_le _⟩ (fun r u H locs hp hP hD hS => ?_)
    have hp : r = (if inO oc O cur k then nI (fsl oc O k) else -1) := hp
    subst hp
    have hP : va_P D classes (wM h hf a.1 b.1 a b cA (nI cur) (nI cnt) wk (nI fc) (fv + nI (fct fc F k)) F (nI oc) (ov + nI (if cur < oc then fct oc O k else 0)) O) H := hP
    have hD : va_D A (wM h hf a.1 b.1 a b cA (nI cur) (nI cnt) wk (nI fc) (fv + nI (fct fc F k)) F (nI oc) (ov + nI (if cur < oc then fct oc O k else 0)) O) := hD
    by_cases h2 : inO oc O cur k
    · skip
      have hoo := hlk h2.1
      have hso := (fsl_spec hoo.1 hoo.2.2).1
      refine x_top (z := (nI (fsl oc O k))) (if_pos h2) ?_
      refine lv_istore_n (lv' := [(3, .int (nI (fsl oc O k))), (2, .int (nI (fsl fc F k))), (0, .ref h), (1, .int k)]) hx hb d_M_slot_27 rfl hl (by decide) rfl (fun ls hl => ?_)
      refine lv_iload_n hx hb d_M_slot_28 rfl (lv_at hl 0 rfl) ?_
      refine lv_if_ge (tgt := 36) hx hb d_M_slot_29 (by decide) (fun _ => ?_) (fun c9 => absurd (nI_pos' (by omega)) c9)
      refine lv_sipush (v := 2000) hx hb d_M_slot_36 (by decide) ?_
      refine lv_iload_n hx hb d_M_slot_39 rfl (lv_at hl 0 rfl) ?_
      refine lv_iadd hx hb d_M_slot_40 ?_
      refine x_top (z := (nI (2000 + fsl oc O k))) (nI_add 2000 _) ?_
      exact hret _ _ _ _ _ _ (a, b, (fv + nI (fct fc F k)), (ov + nI (if cur < oc then fct oc O k else 0))) d_M_slot_41 hP hD hS (by unfold oslotA; rw [if_neg h1, if_pos h2]) rfl
    · skip
      refine x_top (z := (-1)) (if_neg h2) ?_
      refine lv_istore_n (lv' := [(3, .int (-1)), (2, .int (nI (fsl fc F k))), (0, .ref h), (1, .int k)]) hx hb d_M_slot_27 rfl hl (by decide) rfl (fun ls hl => ?_)
      refine lv_iload_n hx hb d_M_slot_28 rfl (lv_at hl 0 rfl) ?_
      refine lv_if_ge (tgt := 36) hx hb d_M_slot_29 (by decide) (fun c9 => absurd c9 (by decide)) (fun _ => ?_)
      refine lv_iconst (v := (-1)) hx hb d_M_slot_32 (by decide) ?_
      refine lv_goto (tgt := 41) hx hb d_M_slot_33 (by decide) ?_
      exact hret _ _ _ _ _ _ (a, b, (fv + nI (fct fc F k)), (ov + nI (if cur < oc then fct oc O k else 0))) d_M_slot_41 hP hD hS (by unfold oslotA; rw [if_neg h1, if_neg h2]) rfl
set_option maxHeartbeats 4000000 in
set_option maxRecDepth 100000 in
theorem c_M_put (l : Launch) (D : va_G) (cA : ClassId) (h hf : Nat) (a b : Ad) (cur cnt fc oc : Nat) (wk fv ov : Int32) (F O : Tb) (k v : Int32) (hiv : Iv hf fc F oc O cur cnt) : Mi l D [(cA, .int)] y_M_put b_M_put 6 (some .int) 5 106 [.ref h, .int k, .int v] (wM h hf a.1 b.1 a b cA (nI cur) (nI cnt) wk (nI fc) fv F (nI oc) ov O) (fun r (u : Uu) => r = oputA hf fc F oc O cur cnt k) (fun u => wS h hf u.1 u.2.1 cA (oput hf fc F oc O cur cnt k v) u.2.2.1 u.2.2.2) := by
  refine mi_start (own := "StepMap") (by decide +kernel) rfl (Nat.le_of_ble_eq_true rfl) ?_
  intro p e s m args below meth cd ls A Q hx hb hml hown ht hk hP hD hA hl hret
  have hS : va_S A s.heap s.heap [] := va_S.rf
  have hl : lv_has ls 6 [(0, .ref h), (1, .int k), (2, .int v)] := hl
  obtain ⟨hh, hfh, hf8, hcu, ho, hct⟩ := hiv.bounds
  have hpf := hiv.2.1
  have hfo := hiv.lk k
  have hsl := (fsl_spec hpf hfo).1
  have hlk : cur < oc → pw oc ∧ oc ≤ hf ∧ fok oc O k := fun z => ⟨(hiv.old z).1, ho, hiv.lkO z k⟩
  refine lv_aload_n hx hb d_M_put_0 rfl (lv_at hl 0 rfl) ?_
  refine xV_v (D := D) (k := 0) (ci := 0) (q := ("StepMap", F_M, 6)) (wr := []) (wb := fun u => (wM h hf a.1 b.1 a b cA (nI cur) (nI cnt) wk (nI fc) 0 F (nI oc) 0 O)) (rest := []) ⟨hx, hb, hml, hown, ht⟩ (c_M_begin l D cA h hf a b cur cnt fc oc wk fv ov F O) gv_M_85 (by decide +kernel) rfl ⟨Nat.le_of_ble_eq_true rfl, Nat.le_of_ble_eq_true rfl⟩ hk hP hD hS hA [0, 1, 2, 3, 4, 5, 6, 7, 8] [] [0, 1, 2, 3, 4, 5, 6, 7, 8] rfl rfl (fun _ => rfl) ⟨rfl, rfl, rfl⟩ (by decide) rfl rfl hl.1 rfl (Nat.le_of_ble_eq_true rfl) d_M_put_1 ⟨Nat.zero_le _, Nat.zero_le _⟩ (fun u H locs hp hP hD hS => ?_)
  have hP : va_P D classes (wM h hf a.1 b.1 a b cA (nI cur) (nI cnt) wk (nI fc) 0 F (nI oc) 0 O) H := hP
  have hD : va_D A (wM h hf a.1 b.1 a b cA (nI cur) (nI cnt) wk (nI fc) 0 F (nI oc) 0 O) := hD
  refine lv_aload_n hx hb d_M_put_4 rfl (lv_at hl 0 rfl) ?_
  refine va_get (D := D) (cl := classes) (ci := 0) (v := .ref a.1) (C := "StepMap") (T := F_M) (N := 6) hx hb ht i_M hown hk.1 hP 0 rfl rfl 1 (by decide) (ht _ mw_1_49) (fun _ h9 => h9) rfl d_M_put_5 ?_
  refine lv_iload_n hx hb d_M_put_8 rfl (lv_at hl 1 rfl) ?_
  refine xV_i (D := D) (k := 1) (ci := 1) (q := ("StepMap$Table", F_T, 5)) (wr := ((h, .inr (0, [.int (nI hf), .ref a.1, .ref b.1, .int (nI cur), .int (nI cnt), .int wk])) :: (wT b cA hf (nI oc) 0 O))) (wb := fun u => (wM h hf a.1 b.1 a b cA (nI cur) (nI cnt) wk (nI fc) (0 + nI (fct fc F k)) F (nI oc) 0 O)) (rest := []) ⟨hx, hb, hml, hown, ht⟩ (c_T_find l D cA a hf fc 0 F k hpf hfh hh hfo) gv_M_51 (by decide +kernel) rfl ⟨Nat.le_of_ble_eq_true rfl, Nat.le_of_ble_eq_true rfl⟩ hk hP hD hS hA [1, 2, 3, 4] [0, 5, 6, 7, 8] [0, 5, 6, 7, 8, 1, 2, 3, 4] rfl rfl (fun _ => rfl) ⟨rfl, rfl, rfl⟩ (by decide) rfl rfl hl.1 rfl (Nat.le_of_ble_eq_true rfl) d_M_put_9 ⟨Nat.zero_le _, Nat.zero_le _⟩ (fun r u H locs hp hP hD hS => ?_)
  have hp : r = (nI (fsl fc F k)) := hp
  subst hp
  have hP : va_P D classes (wM h hf a.1 b.1 a b cA (nI cur) (nI cnt) wk (nI fc) (0 + nI (fct fc F k)) F (nI oc) 0 O) H := hP
  have hD : va_D A (wM h hf a.1 b.1 a b cA (nI cur) (nI cnt) wk (nI fc) (0 + nI (fct fc F k)) F (nI oc) 0 O) := hD
  refine lv_istore_n (lv' := [(3, .int (nI (fsl fc F k))), (0, .ref h), (1, .int k), (2, .int v)]) hx hb d_M_put_12 rfl hl (by decide) rfl (fun ls hl => ?_)
  refine lv_aload_n hx hb d_M_put_13 rfl (lv_at hl 1 rfl) ?_
  refine va_get (D := D) (cl := classes) (ci := 0) (v := .ref a.1) (C := "StepMap") (T := F_M) (N := 6) hx hb ht i_M hown hk.1 hP 0 rfl rfl 1 (by decide) (ht _ mw_1_49) (fun _ h9 => h9) rfl d_M_put_14 ?_
  refine lv_iload_n hx hb d_M_put_17 rfl (lv_at hl 0 rfl) ?_
  refine xV_i (D := D) (k := 1) (ci := 1) (q := ("StepMap$Table", F_T, 5)) (wr := ((h, .inr (0, [.int (nI hf), .ref a.1, .ref b.1, .int (nI cur), .int (nI cnt), .int wk])) :: (wT b cA hf (nI oc) 0 O))) (wb := fun u => (wM h hf a.1 b.1 a b cA (nI cur) (nI cnt) wk (nI fc) (0 + nI (fct fc F k)) F (nI oc) 0 O)) (rest := []) ⟨hx, hb, hml, hown, ht⟩ (c_T_holds l D cA a hf fc (0 + nI (fct fc F k)) F (fsl fc F k) hh (by omega)) gv_M_55 (by decide +kernel) rfl ⟨Nat.le_of_ble_eq_true rfl, Nat.le_of_ble_eq_true rfl⟩ hk hP hD hS hA [1, 2, 3, 4] [0, 5, 6, 7, 8] [0, 5, 6, 7, 8, 1, 2, 3, 4] rfl rfl (fun _ => rfl) ⟨rfl, rfl, rfl⟩ (by decide) rfl rfl hl.1 rfl (Nat.le_of_ble_eq_true rfl) d_M_put_18 ⟨Nat.zero_le _, Nat.zero_le _⟩ (fun r u H locs hp hP hD hS => ?_)
  have hp : r = (if F.2.2 (fsl fc F k) = 1 then 1 else 0) := hp
  subst hp
  have hP : va_P D classes (wM h hf a.1 b.1 a b cA (nI cur) (nI cnt) wk (nI fc) (0 + nI (fct fc F k)) F (nI oc) 0 O) H := hP
  have hD : va_D A (wM h hf a.1 b.1 a b cA (nI cur) (nI cnt) wk (nI fc) (0 + nI (fct fc F k)) F (nI oc) 0 O) := hD
  by_cases h1 : F.2.2 (fsl fc F k) = 1
  · skip
    refine x_top (z := 1) (if10 h1) ?_
    refine lv_if_eq (tgt := 28) hx hb d_M_put_21 (by decide) (fun c9 => absurd c9 (by decide)) (fun _ => ?_)
    refine lv_iconst (v := (-1)) hx hb d_M_put_24 (by decide) ?_
    refine lv_goto (tgt := 33) hx hb d_M_put_25 (by decide) ?_
    refine lv_istore (lv' := [(4, .int (-1)), (3, .int (nI (fsl fc F k))), (0, .ref h), (1, .int k), (2, .int v)]) hx hb d_M_put_33 hl (by decide) rfl (fun ls hl => ?_)
    refine lv_iconst (v := 0) hx hb d_M_put_35 (by decide) ?_
    refine lv_istore (lv' := [(5, .int 0), (4, .int (-1)), (3, .int (nI (fsl fc F k))), (0, .ref h), (1, .int k), (2, .int v)]) hx hb d_M_put_36 hl (by decide) rfl (fun ls hl => ?_)
    refine lv_aload_n hx hb d_M_put_38 rfl (lv_at hl 3 rfl) ?_
    refine va_get (D := D) (cl := classes) (ci := 0) (v := .ref a.1) (C := "StepMap") (T := F_M) (N := 6) hx hb ht i_M hown hk.1 hP 0 rfl rfl 1 (by decide) (ht _ mw_1_49) (fun _ h9 => h9) rfl d_M_put_39 ?_
    refine lv_iload_n hx hb d_M_put_42 rfl (lv_at hl 2 rfl) ?_
    refine xV_i (D := D) (k := 1) (ci := 1) (q := ("StepMap$Table", F_T, 5)) (wr := ((h, .inr (0, [.int (nI hf), .ref a.1, .ref b.1, .int (nI cur), .int (nI cnt), .int wk])) :: (wT b cA hf (nI oc) 0 O))) (wb := fun u => (wM h hf a.1 b.1 a b cA (nI cur) (nI cnt) wk (nI fc) (0 + nI (fct fc F k)) F (nI oc) 0 O)) (rest := []) ⟨hx, hb, hml, hown, ht⟩ (c_T_holds l D cA a hf fc (0 + nI (fct fc F k)) F (fsl fc F k) hh (by omega)) gv_M_55 (by decide +kernel) rfl ⟨Nat.le_of_ble_eq_true rfl, Nat.le_of_ble_eq_true rfl⟩ hk hP hD hS hA [1, 2, 3, 4] [0, 5, 6, 7, 8] [0, 5, 6, 7, 8, 1, 2, 3, 4] rfl rfl (fun _ => rfl) ⟨rfl, rfl, rfl⟩ (by decide) rfl rfl hl.1 rfl (Nat.le_of_ble_eq_true rfl) d_M_put_43 ⟨Nat.zero_le _, Nat.zero_le _⟩ (fun r u H locs hp hP hD hS => ?_)
    have hp : r = (if F.2.2 (fsl fc F k) = 1 then 1 else 0) := hp
    subst hp
    have hP : va_P D classes (wM h hf a.1 b.1 a b cA (nI cur) (nI cnt) wk (nI fc) (0 + nI (fct fc F k)) F (nI oc) 0 O) H := hP
    have hD : va_D A (wM h hf a.1 b.1 a b cA (nI cur) (nI cnt) wk (nI fc) (0 + nI (fct fc F k)) F (nI oc) 0 O) := hD
    refine x_top (z := 1) (if10 h1) ?_
    refine lv_if_eq (tgt := 62) hx hb d_M_put_46 (by decide) (fun c9 => absurd c9 (by decide)) (fun _ => ?_)
    refine lv_aload_n hx hb d_M_put_49 rfl (lv_at hl 3 rfl) ?_
    refine va_get (D := D) (cl := classes) (ci := 0) (v := .ref a.1) (C := "StepMap") (T := F_M) (N := 6) hx hb ht i_M hown hk.1 hP 0 rfl rfl 1 (by decide) (ht _ mw_1_49) (fun _ h9 => h9) rfl d_M_put_50 ?_
    refine va_getN (D := D) (cl := classes) (ci := 1) (v := .ref a.2.2.1) (C := "StepMap$Table") (T := F_T) (N := 5) hx hb ht i_T hown hk.1 hP 1 rfl rfl 1 (by decide) (va_Nw.use rfl hk.2.2.1) (fun _ h9 => h9) rfl d_M_put_53 ?_
    refine lv_iload_n hx hb d_M_put_56 rfl (lv_at hl 2 rfl) ?_
    refine lv_iload_n hx hb d_M_put_57 rfl (lv_at hl 5 rfl) ?_
    refine x_ast hx hb hk hP hD hS 3 0 rfl rfl (i := (fsl fc F k)) (x := v) (by omega) (by omega) d_M_put_58 (fun H locs hP hD hS => ?_)
    have hP : va_P D classes (wM h hf a.1 b.1 a b cA (nI cur) (nI cnt) wk (nI fc) (0 + nI (fct fc F k)) (F.1, (upd F.2.1 (fsl fc F k) v), F.2.2) (nI oc) 0 O) H := hP
    have hD : va_D A (wM h hf a.1 b.1 a b cA (nI cur) (nI cnt) wk (nI fc) (0 + nI (fct fc F k)) (F.1, (upd F.2.1 (fsl fc F k) v), F.2.2) (nI oc) 0 O) := hD
    refine lv_goto (tgt := 119) hx hb d_M_put_59 (by decide) ?_
    refine lv_aload_n hx hb d_M_put_119 rfl (lv_at hl 3 rfl) ?_
    refine xV_v (D := D) (k := 0) (ci := 0) (q := ("StepMap", F_M, 6)) (wr := []) (wb := fun u => (wM h hf a.1 b.1 a b cA (nI cur) (nI cnt) ((0 + nI (fct fc F k)) + 0) (nI fc) (0 + nI (fct fc F k)) (F.1, (upd F.2.1 (fsl fc F k) v), F.2.2) (nI oc) 0 O)) (rest := []) ⟨hx, hb, hml, hown, ht⟩ (c_M_end l D cA h hf a b cur cnt fc oc wk (0 + nI (fct fc F k)) 0 (F.1, (upd F.2.1 (fsl fc F k) v), F.2.2) O) gv_M_98 (by decide +kernel) rfl ⟨Nat.le_of_ble_eq_true rfl, Nat.le_of_ble_eq_true rfl⟩ hk hP hD hS hA [0, 1, 2, 3, 4, 5, 6, 7, 8] [] [0, 1, 2, 3, 4, 5, 6, 7, 8] rfl rfl (fun _ => rfl) ⟨rfl, rfl, rfl⟩ (by decide) rfl rfl hl.1 rfl (Nat.le_of_ble_eq_true rfl) d_M_put_120 ⟨Nat.zero_le _, Nat.zero_le _⟩ (fun u H locs hp hP hD hS => ?_)
    have hP : va_P D classes (wM h hf a.1 b.1 a b cA (nI cur) (nI cnt) ((0 + nI (fct fc F k)) + 0) (nI fc) (0 + nI (fct fc F k)) (F.1, (upd F.2.1 (fsl fc F k) v), F.2.2) (nI oc) 0 O) H := hP
    have hD : va_D A (wM h hf a.1 b.1 a b cA (nI cur) (nI cnt) ((0 + nI (fct fc F k)) + 0) (nI fc) (0 + nI (fct fc F k)) (F.1, (upd F.2.1 (fsl fc F k) v), F.2.2) (nI oc) 0 O) := hD
    refine lv_iload hx hb d_M_put_123 (lv_at hl 0 rfl) ?_
    have eS : (oput hf fc F oc O cur cnt k v) = (fc, pF F (fsl fc F k) v, oc, O, cur, cnt, nI (wkc fc F oc O cur k)) := by unfold oput; rw [if_pos h1]
    rw [wkc_1 (oc := oc) (O := O) (cur := cur) h1] at hP hD
    have hP : va_P D classes (wS h hf a b cA (oput hf fc F oc O cur cnt k v) (0 + nI (fct fc F k)) 0) H := by rw [eS]; exact hP
    have hD : va_D A (wS h hf a b cA (oput hf fc F oc O cur cnt k v) (0 + nI (fct fc F k)) 0) := by rw [eS]; exact hD
    exact hret _ _ _ _ _ _ (a, b, (0 + nI (fct fc F k)), 0) d_M_put_125 hP hD hS (by unfold oputA; rw [if_pos h1]) rfl
  · skip
    refine x_top (z := 0) (if00 h1) ?_
    refine lv_if_eq (tgt := 28) hx hb d_M_put_21 (by decide) (fun _ => ?_) (fun c9 => absurd (rfl) c9)
    refine lv_aload_n hx hb d_M_put_28 rfl (lv_at hl 1 rfl) ?_
    refine lv_iload_n hx hb d_M_put_29 rfl (lv_at hl 2 rfl) ?_
    refine xV_i (D := D) (k := 1) (ci := 0) (q := ("StepMap", F_M, 6)) (wr := []) (wb := fun u => (wM h hf a.1 b.1 a b cA (nI cur) (nI cnt) wk (nI fc) (0 + nI (fct fc F k)) F (nI oc) (0 + nI (if cur < oc then fct oc O k else 0)) O)) (rest := []) ⟨hx, hb, hml, hown, ht⟩ (c_M_findOld l D cA h hf a b cur cnt fc oc wk (0 + nI (fct fc F k)) 0 F O k hcu (by omega) hh hlk) gv_M_88 (by decide +kernel) rfl ⟨Nat.le_of_ble_eq_true rfl, Nat.le_of_ble_eq_true rfl⟩ hk hP hD hS hA [0, 1, 2, 3, 4, 5, 6, 7, 8] [] [0, 1, 2, 3, 4, 5, 6, 7, 8] rfl rfl (fun _ => rfl) ⟨rfl, rfl, rfl⟩ (by decide) rfl rfl hl.1 rfl (Nat.le_of_ble_eq_true rfl) d_M_put_30 ⟨Nat.zero_le _, Nat.zero_le _⟩ (fun r u H locs hp hP hD hS => ?_)
    have hp : r = (if inO oc O cur k then nI (fsl oc O k) else -1) := hp
    subst hp
    have hP : va_P D classes (wM h hf a.1 b.1 a b cA (nI cur) (nI cnt) wk (nI fc) (0 + nI (fct fc F k)) F (nI oc) (0 + nI (if cur < oc then fct oc O k else 0)) O) H := hP
    have hD : va_D A (wM h hf a.1 b.1 a b cA (nI cur) (nI cnt) wk (nI fc) (0 + nI (fct fc F k)) F (nI oc) (0 + nI (if cur < oc then fct oc O k else 0)) O) := hD
    refine lv_istore (lv' := [(4, .int (if inO oc O cur k then nI (fsl oc O k) else -1)), (3, .int (nI (fsl fc F k))), (0, .ref h), (1, .int k), (2, .int v)]) hx hb d_M_put_33 hl (by decide) rfl (fun ls hl => ?_)
    refine lv_iconst (v := 0) hx hb d_M_put_35 (by decide) ?_
    refine lv_istore (lv' := [(5, .int 0), (4, .int (if inO oc O cur k then nI (fsl oc O k) else -1)), (3, .int (nI (fsl fc F k))), (0, .ref h), (1, .int k), (2, .int v)]) hx hb d_M_put_36 hl (by decide) rfl (fun ls hl => ?_)
    refine lv_aload_n hx hb d_M_put_38 rfl (lv_at hl 3 rfl) ?_
    refine va_get (D := D) (cl := classes) (ci := 0) (v := .ref a.1) (C := "StepMap") (T := F_M) (N := 6) hx hb ht i_M hown hk.1 hP 0 rfl rfl 1 (by decide) (ht _ mw_1_49) (fun _ h9 => h9) rfl d_M_put_39 ?_
    refine lv_iload_n hx hb d_M_put_42 rfl (lv_at hl 2 rfl) ?_
    refine xV_i (D := D) (k := 1) (ci := 1) (q := ("StepMap$Table", F_T, 5)) (wr := ((h, .inr (0, [.int (nI hf), .ref a.1, .ref b.1, .int (nI cur), .int (nI cnt), .int wk])) :: (wT b cA hf (nI oc) (0 + nI (if cur < oc then fct oc O k else 0)) O))) (wb := fun u => (wM h hf a.1 b.1 a b cA (nI cur) (nI cnt) wk (nI fc) (0 + nI (fct fc F k)) F (nI oc) (0 + nI (if cur < oc then fct oc O k else 0)) O)) (rest := []) ⟨hx, hb, hml, hown, ht⟩ (c_T_holds l D cA a hf fc (0 + nI (fct fc F k)) F (fsl fc F k) hh (by omega)) gv_M_55 (by decide +kernel) rfl ⟨Nat.le_of_ble_eq_true rfl, Nat.le_of_ble_eq_true rfl⟩ hk hP hD hS hA [1, 2, 3, 4] [0, 5, 6, 7, 8] [0, 5, 6, 7, 8, 1, 2, 3, 4] rfl rfl (fun _ => rfl) ⟨rfl, rfl, rfl⟩ (by decide) rfl rfl hl.1 rfl (Nat.le_of_ble_eq_true rfl) d_M_put_43 ⟨Nat.zero_le _, Nat.zero_le _⟩ (fun r u H locs hp hP hD hS => ?_)
    have hp : r = (if F.2.2 (fsl fc F k) = 1 then 1 else 0) := hp
    subst hp
    have hP : va_P D classes (wM h hf a.1 b.1 a b cA (nI cur) (nI cnt) wk (nI fc) (0 + nI (fct fc F k)) F (nI oc) (0 + nI (if cur < oc then fct oc O k else 0)) O) H := hP
    have hD : va_D A (wM h hf a.1 b.1 a b cA (nI cur) (nI cnt) wk (nI fc) (0 + nI (fct fc F k)) F (nI oc) (0 + nI (if cur < oc then fct oc O k else 0)) O) := hD
    refine x_top (z := 0) (if00 h1) ?_
    refine lv_if_eq (tgt := 62) hx hb d_M_put_46 (by decide) (fun _ => ?_) (fun c9 => absurd (rfl) c9)
    by_cases h2 : inO oc O cur k
    · skip
      have hoo := hlk h2.1
      have hso := (fsl_spec hoo.1 hoo.2.2).1
      refine lv_iload hx hb d_M_put_62 (lv_at hl 1 rfl) ?_
      refine x_top (z := (nI (fsl oc O k))) (if_pos h2) ?_
      refine lv_if_lt (tgt := 81) hx hb d_M_put_64 (by decide) (fun c9 => absurd c9 (nI_n0 (by omega))) (fun _ => ?_)
      refine lv_aload_n hx hb d_M_put_67 rfl (lv_at hl 3 rfl) ?_
      refine va_get (D := D) (cl := classes) (ci := 0) (v := .ref b.1) (C := "StepMap") (T := F_M) (N := 6) hx hb ht i_M hown hk.1 hP 0 rfl rfl 2 (by decide) (ht _ mw_1_50) (fun _ h9 => h9) rfl d_M_put_68 ?_
      refine va_getN (D := D) (cl := classes) (ci := 1) (v := .ref b.2.2.1) (C := "StepMap$Table") (T := F_T) (N := 5) hx hb ht i_T hown hk.1 hP 5 rfl rfl 1 (by decide) (va_Nw.use rfl hk.2.2.1) (fun _ h9 => h9) rfl d_M_put_71 ?_
      refine lv_iload hx hb d_M_put_74 (lv_at hl 1 rfl) ?_
      refine x_top (z := (nI (fsl oc O k))) (if_pos h2) ?_
      refine lv_iload_n hx hb d_M_put_76 rfl (lv_at hl 5 rfl) ?_
      refine x_ast hx hb hk hP hD hS 7 0 rfl rfl (i := (fsl oc O k)) (x := v) (by omega) (by omega) d_M_put_77 (fun H locs hP hD hS => ?_)
      have hP : va_P D classes (wM h hf a.1 b.1 a b cA (nI cur) (nI cnt) wk (nI fc) (0 + nI (fct fc F k)) F (nI oc) (0 + nI (if cur < oc then fct oc O k else 0)) (O.1, (upd O.2.1 (fsl oc O k) v), O.2.2)) H := hP
      have hD : va_D A (wM h hf a.1 b.1 a b cA (nI cur) (nI cnt) wk (nI fc) (0 + nI (fct fc F k)) F (nI oc) (0 + nI (if cur < oc then fct oc O k else 0)) (O.1, (upd O.2.1 (fsl oc O k) v), O.2.2)) := hD
      refine lv_goto (tgt := 119) hx hb d_M_put_78 (by decide) ?_
      refine lv_aload_n hx hb d_M_put_119 rfl (lv_at hl 3 rfl) ?_
      refine xV_v (D := D) (k := 0) (ci := 0) (q := ("StepMap", F_M, 6)) (wr := []) (wb := fun u => (wM h hf a.1 b.1 a b cA (nI cur) (nI cnt) ((0 + nI (fct fc F k)) + (0 + nI (if cur < oc then fct oc O k else 0))) (nI fc) (0 + nI (fct fc F k)) F (nI oc) (0 + nI (if cur < oc then fct oc O k else 0)) (O.1, (upd O.2.1 (fsl oc O k) v), O.2.2))) (rest := []) ⟨hx, hb, hml, hown, ht⟩ (c_M_end l D cA h hf a b cur cnt fc oc wk (0 + nI (fct fc F k)) (0 + nI (if cur < oc then fct oc O k else 0)) F (O.1, (upd O.2.1 (fsl oc O k) v), O.2.2)) gv_M_98 (by decide +kernel) rfl ⟨Nat.le_of_ble_eq_true rfl, Nat.le_of_ble_eq_true rfl⟩ hk hP hD hS hA [0, 1, 2, 3, 4, 5, 6, 7, 8] [] [0, 1, 2, 3, 4, 5, 6, 7, 8] rfl rfl (fun _ => rfl) ⟨rfl, rfl, rfl⟩ (by decide) rfl rfl hl.1 rfl (Nat.le_of_ble_eq_true rfl) d_M_put_120 ⟨Nat.zero_le _, Nat.zero_le _⟩ (fun u H locs hp hP hD hS => ?_)
      have hP : va_P D classes (wM h hf a.1 b.1 a b cA (nI cur) (nI cnt) ((0 + nI (fct fc F k)) + (0 + nI (if cur < oc then fct oc O k else 0))) (nI fc) (0 + nI (fct fc F k)) F (nI oc) (0 + nI (if cur < oc then fct oc O k else 0)) (O.1, (upd O.2.1 (fsl oc O k) v), O.2.2)) H := hP
      have hD : va_D A (wM h hf a.1 b.1 a b cA (nI cur) (nI cnt) ((0 + nI (fct fc F k)) + (0 + nI (if cur < oc then fct oc O k else 0))) (nI fc) (0 + nI (fct fc F k)) F (nI oc) (0 + nI (if cur < oc then fct oc O k else 0)) (O.1, (upd O.2.1 (fsl oc O k) v), O.2.2)) := hD
      refine lv_iload hx hb d_M_put_123 (lv_at hl 0 rfl) ?_
      have eS : (oput hf fc F oc O cur cnt k v) = (fc, F, oc, pF O (fsl oc O k) v, cur, cnt, nI (wkc fc F oc O cur k)) := by unfold oput; rw [if_neg h1, if_pos h2]
      rw [wkc_0 (oc := oc) (O := O) (cur := cur) h1] at hP hD
      have hP : va_P D classes (wS h hf a b cA (oput hf fc F oc O cur cnt k v) (0 + nI (fct fc F k)) (0 + nI (if cur < oc then fct oc O k else 0))) H := by rw [eS]; exact hP
      have hD : va_D A (wS h hf a b cA (oput hf fc F oc O cur cnt k v) (0 + nI (fct fc F k)) (0 + nI (if cur < oc then fct oc O k else 0))) := by rw [eS]; exact hD
      exact hret _ _ _ _ _ _ (a, b, (0 + nI (fct fc F k)), (0 + nI (if cur < oc then fct oc O k else 0))) d_M_put_125 hP hD hS (by unfold oputA; rw [if_neg h1, if_pos h2]) rfl
    · skip
      refine lv_iload hx hb d_M_put_62 (lv_at hl 1 rfl) ?_
      refine x_top (z := (-1)) (if_neg h2) ?_
      refine lv_if_lt (tgt := 81) hx hb d_M_put_64 (by decide) (fun _ => ?_) (fun c9 => absurd (by decide) c9)
      refine lv_aload_n hx hb d_M_put_81 rfl (lv_at hl 3 rfl) ?_
      refine xV_i (D := D) (k := 0) (ci := 0) (q := ("StepMap", F_M, 6)) (wr := []) (wb := fun u => (wM h hf a.1 b.1 a b cA (nI cur) (nI cnt) wk (nI fc) (0 + nI (fct fc F k)) F (nI oc) (0 + nI (if cur < oc then fct oc O k else 0)) O)) (rest := []) ⟨hx, hb, hml, hown, ht⟩ (c_M_isFull l D cA h hf a b cur cnt fc oc wk (0 + nI (fct fc F k)) (0 + nI (if cur < oc then fct oc O k else 0)) F O hcu (by omega) hh (by omega) (by omega)) gv_M_91 (by decide +kernel) rfl ⟨Nat.le_of_ble_eq_true rfl, Nat.le_of_ble_eq_true rfl⟩ hk hP hD hS hA [0, 1, 2, 3, 4, 5, 6, 7, 8] [] [0, 1, 2, 3, 4, 5, 6, 7, 8] rfl rfl (fun _ => rfl) ⟨rfl, rfl, rfl⟩ (by decide) rfl rfl hl.1 rfl (Nat.le_of_ble_eq_true rfl) d_M_put_82 ⟨Nat.zero_le _, Nat.zero_le _⟩ (fun r u H locs hp hP hD hS => ?_)
      have hp : r = (if fullD hf fc oc cur cnt = true then 1 else 0) := hp
      subst hp
      have hP : va_P D classes (wM h hf a.1 b.1 a b cA (nI cur) (nI cnt) wk (nI fc) (0 + nI (fct fc F k)) F (nI oc) (0 + nI (if cur < oc then fct oc O k else 0)) O) H := hP
      have hD : va_D A (wM h hf a.1 b.1 a b cA (nI cur) (nI cnt) wk (nI fc) (0 + nI (fct fc F k)) F (nI oc) (0 + nI (if cur < oc then fct oc O k else 0)) O) := hD
      by_cases h3 : fullD hf fc oc cur cnt = true
      · skip
        refine x_top (z := 1) (if10 h3) ?_
        refine lv_if_eq (tgt := 95) hx hb d_M_put_85 (by decide) (fun c9 => absurd c9 (by decide)) (fun _ => ?_)
        refine lv_ldc (v := (-2000000001)) hx hb hown (ht _ mw_1_111) d_M_put_88 ?_
        refine lv_istore (lv' := [(5, .int (-2000000001)), (4, .int (if inO oc O cur k then nI (fsl oc O k) else -1)), (3, .int (nI (fsl fc F k))), (0, .ref h), (1, .int k), (2, .int v)]) hx hb d_M_put_90 hl (by decide) rfl (fun ls hl => ?_)
        refine lv_goto (tgt := 119) hx hb d_M_put_92 (by decide) ?_
        refine lv_aload_n hx hb d_M_put_119 rfl (lv_at hl 3 rfl) ?_
        refine xV_v (D := D) (k := 0) (ci := 0) (q := ("StepMap", F_M, 6)) (wr := []) (wb := fun u => (wM h hf a.1 b.1 a b cA (nI cur) (nI cnt) ((0 + nI (fct fc F k)) + (0 + nI (if cur < oc then fct oc O k else 0))) (nI fc) (0 + nI (fct fc F k)) F (nI oc) (0 + nI (if cur < oc then fct oc O k else 0)) O)) (rest := []) ⟨hx, hb, hml, hown, ht⟩ (c_M_end l D cA h hf a b cur cnt fc oc wk (0 + nI (fct fc F k)) (0 + nI (if cur < oc then fct oc O k else 0)) F O) gv_M_98 (by decide +kernel) rfl ⟨Nat.le_of_ble_eq_true rfl, Nat.le_of_ble_eq_true rfl⟩ hk hP hD hS hA [0, 1, 2, 3, 4, 5, 6, 7, 8] [] [0, 1, 2, 3, 4, 5, 6, 7, 8] rfl rfl (fun _ => rfl) ⟨rfl, rfl, rfl⟩ (by decide) rfl rfl hl.1 rfl (Nat.le_of_ble_eq_true rfl) d_M_put_120 ⟨Nat.zero_le _, Nat.zero_le _⟩ (fun u H locs hp hP hD hS => ?_)
        have hP : va_P D classes (wM h hf a.1 b.1 a b cA (nI cur) (nI cnt) ((0 + nI (fct fc F k)) + (0 + nI (if cur < oc then fct oc O k else 0))) (nI fc) (0 + nI (fct fc F k)) F (nI oc) (0 + nI (if cur < oc then fct oc O k else 0)) O) H := hP
        have hD : va_D A (wM h hf a.1 b.1 a b cA (nI cur) (nI cnt) ((0 + nI (fct fc F k)) + (0 + nI (if cur < oc then fct oc O k else 0))) (nI fc) (0 + nI (fct fc F k)) F (nI oc) (0 + nI (if cur < oc then fct oc O k else 0)) O) := hD
        refine lv_iload hx hb d_M_put_123 (lv_at hl 0 rfl) ?_
        have eS : (oput hf fc F oc O cur cnt k v) = (fc, F, oc, O, cur, cnt, nI (wkc fc F oc O cur k)) := by unfold oput; rw [if_neg h1, if_neg h2, if_pos h3]
        rw [wkc_0 (oc := oc) (O := O) (cur := cur) h1] at hP hD
        have hP : va_P D classes (wS h hf a b cA (oput hf fc F oc O cur cnt k v) (0 + nI (fct fc F k)) (0 + nI (if cur < oc then fct oc O k else 0))) H := by rw [eS]; exact hP
        have hD : va_D A (wS h hf a b cA (oput hf fc F oc O cur cnt k v) (0 + nI (fct fc F k)) (0 + nI (if cur < oc then fct oc O k else 0))) := by rw [eS]; exact hD
        exact hret _ _ _ _ _ _ (a, b, (0 + nI (fct fc F k)), (0 + nI (if cur < oc then fct oc O k else 0))) d_M_put_125 hP hD hS (by unfold oputA; rw [if_neg h1, if_neg h2, if_pos h3]; rfl) rfl
      · skip
        refine x_top (z := 0) (if00 h3) ?_
        refine lv_if_eq (tgt := 95) hx hb d_M_put_85 (by decide) (fun _ => ?_) (fun c9 => absurd (rfl) c9)
        refine lv_aload_n hx hb d_M_put_95 rfl (lv_at hl 3 rfl) ?_
        refine va_get (D := D) (cl := classes) (ci := 0) (v := .ref a.1) (C := "StepMap") (T := F_M) (N := 6) hx hb ht i_M hown hk.1 hP 0 rfl rfl 1 (by decide) (ht _ mw_1_49) (fun _ h9 => h9) rfl d_M_put_96 ?_
        refine lv_iload_n hx hb d_M_put_99 rfl (lv_at hl 2 rfl) ?_
        refine lv_iload_n hx hb d_M_put_100 rfl (lv_at hl 4 rfl) ?_
        refine lv_iload_n hx hb d_M_put_101 rfl (lv_at hl 5 rfl) ?_
        refine xV_v (D := D) (k := 3) (ci := 1) (q := ("StepMap$Table", F_T, 5)) (wr := ((h, .inr (0, [.int (nI hf), .ref a.1, .ref b.1, .int (nI cur), .int (nI cnt), .int wk])) :: (wT b cA hf (nI oc) (0 + nI (if cur < oc then fct oc O k else 0)) O))) (wb := fun u => (wM h hf a.1 b.1 a b cA (nI cur) (nI cnt) wk (nI fc) (0 + nI (fct fc F k)) (tput F (fsl fc F k) k v) (nI oc) (0 + nI (if cur < oc then fct oc O k else 0)) O)) (rest := []) ⟨hx, hb, hml, hown, ht⟩ (c_T_put l D cA a hf fc (0 + nI (fct fc F k)) F (fsl fc F k) k v hh (by omega)) gv_M_66 (by decide +kernel) rfl ⟨Nat.le_of_ble_eq_true rfl, Nat.le_of_ble_eq_true rfl⟩ hk hP hD hS hA [1, 2, 3, 4] [0, 5, 6, 7, 8] [0, 5, 6, 7, 8, 1, 2, 3, 4] rfl rfl (fun _ => rfl) ⟨rfl, rfl, rfl⟩ (by decide) rfl rfl hl.1 rfl (Nat.le_of_ble_eq_true rfl) d_M_put_102 ⟨Nat.zero_le _, Nat.zero_le _⟩ (fun u H locs hp hP hD hS => ?_)
        have hP : va_P D classes (wM h hf a.1 b.1 a b cA (nI cur) (nI cnt) wk (nI fc) (0 + nI (fct fc F k)) (tput F (fsl fc F k) k v) (nI oc) (0 + nI (if cur < oc then fct oc O k else 0)) O) H := hP
        have hD : va_D A (wM h hf a.1 b.1 a b cA (nI cur) (nI cnt) wk (nI fc) (0 + nI (fct fc F k)) (tput F (fsl fc F k) k v) (nI oc) (0 + nI (if cur < oc then fct oc O k else 0)) O) := hD
        refine lv_aload_n hx hb d_M_put_105 rfl (lv_at hl 3 rfl) ?_
        refine lv_dup hx hb d_M_put_106 rfl ?_
        refine va_get (D := D) (cl := classes) (ci := 0) (v := .int (nI cnt)) (C := "StepMap") (T := F_M) (N := 6) hx hb ht i_M hown hk.1 hP 0 rfl rfl 4 (by decide) (ht _ mw_1_52) (fun _ h9 => h9) rfl d_M_put_107 ?_
        refine lv_iconst (v := 1) hx hb d_M_put_110 (by decide) ?_
        refine lv_iadd hx hb d_M_put_111 ?_
        refine x_top (z := (nI (cnt + 1))) (nI_1 cnt) ?_
        refine va_put (D := D) (cl := classes) (ci := 0) (v := .int (nI (cnt + 1))) (ty := .int) (C := "StepMap") (T := F_M) (N := 6) hx hb ht i_M tt_M tt_M_ok n_M hown hk.1 hP hD hS 0 rfl rfl 4 (by decide) (ht _ mw_1_52) (fun _ h9 => h9) rfl (by decide +kernel) rfl rfl (Nat.le_of_ble_eq_true rfl) d_M_put_112 (fun H locs hP hD hS => ?_)
        have hP : va_P D classes (wM h hf a.1 b.1 a b cA (nI cur) (nI (cnt + 1)) wk (nI fc) (0 + nI (fct fc F k)) (tput F (fsl fc F k) k v) (nI oc) (0 + nI (if cur < oc then fct oc O k else 0)) O) H := hP
        have hD : va_D A (wM h hf a.1 b.1 a b cA (nI cur) (nI (cnt + 1)) wk (nI fc) (0 + nI (fct fc F k)) (tput F (fsl fc F k) k v) (nI oc) (0 + nI (if cur < oc then fct oc O k else 0)) O) := hD
        refine lv_aload_n hx hb d_M_put_115 rfl (lv_at hl 3 rfl) ?_
        refine xV_v (D := D) (k := 0) (ci := 0) (q := ("StepMap", F_M, 6)) (wr := []) (wb := fun u => (wS h hf u.1 u.2.1 cA (stl fc (tput F (fsl fc F k) k v) oc O cur (cnt + 1) wk) u.2.2.1 u.2.2.2)) (rest := []) ⟨hx, hb, hml, hown, ht⟩ (c_M_settle l D cA h hf a b cur (cnt + 1) fc oc wk (0 + nI (fct fc F k)) (0 + nI (if cur < oc then fct oc O k else 0)) (tput F (fsl fc F k) k v) O (wkc fc F oc O cur k) (put_SI hiv h1 h2 h3) (wkc_0 h1)) gv_M_95 (by decide +kernel) rfl ⟨Nat.le_of_ble_eq_true rfl, Nat.le_of_ble_eq_true rfl⟩ hk hP hD hS hA [0, 1, 2, 3, 4, 5, 6, 7, 8] [] [0, 1, 2, 3, 4, 5, 6, 7, 8] rfl rfl (fun _ => rfl) ⟨rfl, rfl, rfl⟩ (by decide) rfl rfl hl.1 rfl (Nat.le_of_ble_eq_true rfl) d_M_put_116 ⟨Nat.zero_le _, Nat.zero_le _⟩ (fun u H locs hp hP hD hS => ?_)
        have hP : va_P D classes (wS h hf u.1 u.2.1 cA (stl fc (tput F (fsl fc F k) k v) oc O cur (cnt + 1) wk) u.2.2.1 u.2.2.2) H := hP
        have hD : va_D A (wS h hf u.1 u.2.1 cA (stl fc (tput F (fsl fc F k) k v) oc O cur (cnt + 1) wk) u.2.2.1 u.2.2.2) := hD
        obtain ⟨a2, b2, v1, v2⟩ := u
        have hsum : v1 + v2 = nI (stw fc (tput F (fsl fc F k) k v) oc O cur (wkc fc F oc O cur k)) := hp
        have eT := stl_wk fc (tput F (fsl fc F k) k v) oc O cur (cnt + 1) wk (nI (stw fc (tput F (fsl fc F k) k v) oc O cur (wkc fc F oc O cur k)))
        obtain ⟨S2, eS2⟩ : ∃ z, z = (stl fc (tput F (fsl fc F k) k v) oc O cur (cnt + 1) wk) := ⟨_, rfl⟩
        rw [← eS2] at hP hD eT
        have hP : va_P D classes (wM h hf a2.1 b2.1 a2 b2 cA (nI S2.2.2.2.2.1) (nI S2.2.2.2.2.2.1) S2.2.2.2.2.2.2 (nI S2.1) v1 S2.2.1 (nI S2.2.2.1) v2 S2.2.2.2.1) H := hP
        have hD : va_D A (wM h hf a2.1 b2.1 a2 b2 cA (nI S2.2.2.2.2.1) (nI S2.2.2.2.2.2.1) S2.2.2.2.2.2.2 (nI S2.1) v1 S2.2.1 (nI S2.2.2.1) v2 S2.2.2.2.1) := hD
        refine lv_aload_n hx hb d_M_put_119 rfl (lv_at hl 3 rfl) ?_
        refine xV_v (D := D) (k := 0) (ci := 0) (q := ("StepMap", F_M, 6)) (wr := []) (wb := fun u => (wM h hf a2.1 b2.1 a2 b2 cA (nI S2.2.2.2.2.1) (nI S2.2.2.2.2.2.1) (v1 + v2) (nI S2.1) v1 S2.2.1 (nI S2.2.2.1) v2 S2.2.2.2.1)) (rest := []) ⟨hx, hb, hml, hown, ht⟩ (c_M_end l D cA h hf a2 b2 S2.2.2.2.2.1 S2.2.2.2.2.2.1 S2.1 S2.2.2.1 S2.2.2.2.2.2.2 v1 v2 S2.2.1 S2.2.2.2.1) gv_M_98 (by decide +kernel) rfl ⟨Nat.le_of_ble_eq_true rfl, Nat.le_of_ble_eq_true rfl⟩ hk hP hD hS hA [0, 1, 2, 3, 4, 5, 6, 7, 8] [] [0, 1, 2, 3, 4, 5, 6, 7, 8] rfl rfl (fun _ => rfl) ⟨rfl, rfl, rfl⟩ (by decide) rfl rfl hl.1 rfl (Nat.le_of_ble_eq_true rfl) d_M_put_120 ⟨Nat.zero_le _, Nat.zero_le _⟩ (fun u H locs hp hP hD hS => ?_)
        have hP : va_P D classes (wM h hf a2.1 b2.1 a2 b2 cA (nI S2.2.2.2.2.1) (nI S2.2.2.2.2.2.1) (v1 + v2) (nI S2.1) v1 S2.2.1 (nI S2.2.2.1) v2 S2.2.2.2.1) H := hP
        have hD : va_D A (wM h hf a2.1 b2.1 a2 b2 cA (nI S2.2.2.2.2.1) (nI S2.2.2.2.2.2.1) (v1 + v2) (nI S2.1) v1 S2.2.1 (nI S2.2.2.1) v2 S2.2.2.2.1) := hD
        refine lv_iload hx hb d_M_put_123 (lv_at hl 0 rfl) ?_
        have eS : (oput hf fc F oc O cur cnt k v) = _ := (by unfold oput; rw [if_neg h1, if_neg h2, if_neg h3] : (oput hf fc F oc O cur cnt k v) = _)
        rw [hsum] at hP hD
        have hP : va_P D classes (wS h hf a2 b2 cA (oput hf fc F oc O cur cnt k v) v1 v2) H := by rw [eS, eT]; exact hP
        have hD : va_D A (wS h hf a2 b2 cA (oput hf fc F oc O cur cnt k v) v1 v2) := by rw [eS, eT]; exact hD
        exact hret _ _ _ _ _ _ (a2, b2, v1, v2) d_M_put_125 hP hD hS (by unfold oputA; rw [if_neg h1, if_neg h2, if_neg h3]) rfl
set_option maxHeartbeats 4000000 in
set_option maxRecDepth 100000 in
theorem c_M_remove (l : Launch) (D : va_G) (cA : ClassId) (h hf : Nat) (a b : Ad) (cur cnt fc oc : Nat) (wk fv ov : Int32) (F O : Tb) (k : Int32) (hiv : Iv hf fc F oc O cur cnt) : Mi l D [(cA, .int)] y_M_remove b_M_remove 5 (some .boolean) 5 106 [.ref h, .int k] (wM h hf a.1 b.1 a b cA (nI cur) (nI cnt) wk (nI fc) fv F (nI oc) ov O) (fun r (u : Uu) => r = oremA fc F oc O cur k) (fun u => wS h hf u.1 u.2.1 cA (orem fc F oc O cur cnt k) u.2.2.1 u.2.2.2) := by
  refine mz_start (own := "StepMap") (by decide +kernel) rfl (Nat.le_of_ble_eq_true rfl) ?_
  intro p e s m args below meth cd ls A Q hx hb hml hown ht hk hP hD hA hl hret
  have hS : va_S A s.heap s.heap [] := va_S.rf
  have hl : lv_has ls 5 [(0, .ref h), (1, .int k)] := hl
  obtain ⟨hh, hfh, hf8, hcu, ho, hct⟩ := hiv.bounds
  have hpf := hiv.2.1
  have hfo := hiv.lk k
  have hsl := (fsl_spec hpf hfo).1
  have hlk : cur < oc → pw oc ∧ oc ≤ hf ∧ fok oc O k := fun z => ⟨(hiv.old z).1, ho, hiv.lkO z k⟩
  refine lv_aload_n hx hb d_M_remove_0 rfl (lv_at hl 0 rfl) ?_
  refine xV_v (D := D) (k := 0) (ci := 0) (q := ("StepMap", F_M, 6)) (wr := []) (wb := fun u => (wM h hf a.1 b.1 a b cA (nI cur) (nI cnt) wk (nI fc) 0 F (nI oc) 0 O)) (rest := []) ⟨hx, hb, hml, hown, ht⟩ (c_M_begin l D cA h hf a b cur cnt fc oc wk fv ov F O) gv_M_85 (by decide +kernel) rfl ⟨Nat.le_of_ble_eq_true rfl, Nat.le_of_ble_eq_true rfl⟩ hk hP hD hS hA [0, 1, 2, 3, 4, 5, 6, 7, 8] [] [0, 1, 2, 3, 4, 5, 6, 7, 8] rfl rfl (fun _ => rfl) ⟨rfl, rfl, rfl⟩ (by decide) rfl rfl hl.1 rfl (Nat.le_of_ble_eq_true rfl) d_M_remove_1 ⟨Nat.zero_le _, Nat.zero_le _⟩ (fun u H locs hp hP hD hS => ?_)
  have hP : va_P D classes (wM h hf a.1 b.1 a b cA (nI cur) (nI cnt) wk (nI fc) 0 F (nI oc) 0 O) H := hP
  have hD : va_D A (wM h hf a.1 b.1 a b cA (nI cur) (nI cnt) wk (nI fc) 0 F (nI oc) 0 O) := hD
  refine lv_aload_n hx hb d_M_remove_4 rfl (lv_at hl 0 rfl) ?_
  refine va_get (D := D) (cl := classes) (ci := 0) (v := .ref a.1) (C := "StepMap") (T := F_M) (N := 6) hx hb ht i_M hown hk.1 hP 0 rfl rfl 1 (by decide) (ht _ mw_1_49) (fun _ h9 => h9) rfl d_M_remove_5 ?_
  refine lv_iload_n hx hb d_M_remove_8 rfl (lv_at hl 1 rfl) ?_
  refine xV_i (D := D) (k := 1) (ci := 1) (q := ("StepMap$Table", F_T, 5)) (wr := ((h, .inr (0, [.int (nI hf), .ref a.1, .ref b.1, .int (nI cur), .int (nI cnt), .int wk])) :: (wT b cA hf (nI oc) 0 O))) (wb := fun u => (wM h hf a.1 b.1 a b cA (nI cur) (nI cnt) wk (nI fc) (0 + nI (fct fc F k)) F (nI oc) 0 O)) (rest := []) ⟨hx, hb, hml, hown, ht⟩ (c_T_find l D cA a hf fc 0 F k hpf hfh hh hfo) gv_M_51 (by decide +kernel) rfl ⟨Nat.le_of_ble_eq_true rfl, Nat.le_of_ble_eq_true rfl⟩ hk hP hD hS hA [1, 2, 3, 4] [0, 5, 6, 7, 8] [0, 5, 6, 7, 8, 1, 2, 3, 4] rfl rfl (fun _ => rfl) ⟨rfl, rfl, rfl⟩ (by decide) rfl rfl hl.1 rfl (Nat.le_of_ble_eq_true rfl) d_M_remove_9 ⟨Nat.zero_le _, Nat.zero_le _⟩ (fun r u H locs hp hP hD hS => ?_)
  have hp : r = (nI (fsl fc F k)) := hp
  subst hp
  have hP : va_P D classes (wM h hf a.1 b.1 a b cA (nI cur) (nI cnt) wk (nI fc) (0 + nI (fct fc F k)) F (nI oc) 0 O) H := hP
  have hD : va_D A (wM h hf a.1 b.1 a b cA (nI cur) (nI cnt) wk (nI fc) (0 + nI (fct fc F k)) F (nI oc) 0 O) := hD
  refine lv_istore_n (lv' := [(2, .int (nI (fsl fc F k))), (0, .ref h), (1, .int k)]) hx hb d_M_remove_12 rfl hl (by decide) rfl (fun ls hl => ?_)
  refine lv_aload_n hx hb d_M_remove_13 rfl (lv_at hl 1 rfl) ?_
  refine va_get (D := D) (cl := classes) (ci := 0) (v := .ref a.1) (C := "StepMap") (T := F_M) (N := 6) hx hb ht i_M hown hk.1 hP 0 rfl rfl 1 (by decide) (ht _ mw_1_49) (fun _ h9 => h9) rfl d_M_remove_14 ?_
  refine lv_iload_n hx hb d_M_remove_17 rfl (lv_at hl 0 rfl) ?_
  refine xV_i (D := D) (k := 1) (ci := 1) (q := ("StepMap$Table", F_T, 5)) (wr := ((h, .inr (0, [.int (nI hf), .ref a.1, .ref b.1, .int (nI cur), .int (nI cnt), .int wk])) :: (wT b cA hf (nI oc) 0 O))) (wb := fun u => (wM h hf a.1 b.1 a b cA (nI cur) (nI cnt) wk (nI fc) (0 + nI (fct fc F k)) F (nI oc) 0 O)) (rest := []) ⟨hx, hb, hml, hown, ht⟩ (c_T_holds l D cA a hf fc (0 + nI (fct fc F k)) F (fsl fc F k) hh (by omega)) gv_M_55 (by decide +kernel) rfl ⟨Nat.le_of_ble_eq_true rfl, Nat.le_of_ble_eq_true rfl⟩ hk hP hD hS hA [1, 2, 3, 4] [0, 5, 6, 7, 8] [0, 5, 6, 7, 8, 1, 2, 3, 4] rfl rfl (fun _ => rfl) ⟨rfl, rfl, rfl⟩ (by decide) rfl rfl hl.1 rfl (Nat.le_of_ble_eq_true rfl) d_M_remove_18 ⟨Nat.zero_le _, Nat.zero_le _⟩ (fun r u H locs hp hP hD hS => ?_)
  have hp : r = (if F.2.2 (fsl fc F k) = 1 then 1 else 0) := hp
  subst hp
  have hP : va_P D classes (wM h hf a.1 b.1 a b cA (nI cur) (nI cnt) wk (nI fc) (0 + nI (fct fc F k)) F (nI oc) 0 O) H := hP
  have hD : va_D A (wM h hf a.1 b.1 a b cA (nI cur) (nI cnt) wk (nI fc) (0 + nI (fct fc F k)) F (nI oc) 0 O) := hD
  by_cases h1 : F.2.2 (fsl fc F k) = 1
  · skip
    refine x_top (z := 1) (if10 h1) ?_
    refine lv_if_eq (tgt := 28) hx hb d_M_remove_21 (by decide) (fun c9 => absurd c9 (by decide)) (fun _ => ?_)
    refine lv_iconst (v := (-1)) hx hb d_M_remove_24 (by decide) ?_
    refine lv_goto (tgt := 33) hx hb d_M_remove_25 (by decide) ?_
    refine lv_istore_n (lv' := [(3, .int (-1)), (2, .int (nI (fsl fc F k))), (0, .ref h), (1, .int k)]) hx hb d_M_remove_33 rfl hl (by decide) rfl (fun ls hl => ?_)
    refine lv_aload_n hx hb d_M_remove_34 rfl (lv_at hl 2 rfl) ?_
    refine va_get (D := D) (cl := classes) (ci := 0) (v := .ref a.1) (C := "StepMap") (T := F_M) (N := 6) hx hb ht i_M hown hk.1 hP 0 rfl rfl 1 (by decide) (ht _ mw_1_49) (fun _ h9 => h9) rfl d_M_remove_35 ?_
    refine lv_iload_n hx hb d_M_remove_38 rfl (lv_at hl 1 rfl) ?_
    refine xV_i (D := D) (k := 1) (ci := 1) (q := ("StepMap$Table", F_T, 5)) (wr := ((h, .inr (0, [.int (nI hf), .ref a.1, .ref b.1, .int (nI cur), .int (nI cnt), .int wk])) :: (wT b cA hf (nI oc) 0 O))) (wb := fun u => (wM h hf a.1 b.1 a b cA (nI cur) (nI cnt) wk (nI fc) (0 + nI (fct fc F k)) F (nI oc) 0 O)) (rest := []) ⟨hx, hb, hml, hown, ht⟩ (c_T_holds l D cA a hf fc (0 + nI (fct fc F k)) F (fsl fc F k) hh (by omega)) gv_M_55 (by decide +kernel) rfl ⟨Nat.le_of_ble_eq_true rfl, Nat.le_of_ble_eq_true rfl⟩ hk hP hD hS hA [1, 2, 3, 4] [0, 5, 6, 7, 8] [0, 5, 6, 7, 8, 1, 2, 3, 4] rfl rfl (fun _ => rfl) ⟨rfl, rfl, rfl⟩ (by decide) rfl rfl hl.1 rfl (Nat.le_of_ble_eq_true rfl) d_M_remove_39 ⟨Nat.zero_le _, Nat.zero_le _⟩ (fun r u H locs hp hP hD hS => ?_)
    have hp : r = (if F.2.2 (fsl fc F k) = 1 then 1 else 0) := hp
    subst hp
    have hP : va_P D classes (wM h hf a.1 b.1 a b cA (nI cur) (nI cnt) wk (nI fc) (0 + nI (fct fc F k)) F (nI oc) 0 O) H := hP
    have hD : va_D A (wM h hf a.1 b.1 a b cA (nI cur) (nI cnt) wk (nI fc) (0 + nI (fct fc F k)) F (nI oc) 0 O) := hD
    refine x_top (z := 1) (if10 h1) ?_
    refine lv_if_ne (tgt := 49) hx hb d_M_remove_42 (by decide) (fun _ => ?_) (fun c9 => absurd c9 (by decide))
    refine lv_iconst (v := 1) hx hb d_M_remove_49 (by decide) ?_
    refine lv_goto (tgt := 54) hx hb d_M_remove_50 (by decide) ?_
    refine lv_istore (lv' := [(4, .int 1), (3, .int (-1)), (2, .int (nI (fsl fc F k))), (0, .ref h), (1, .int k)]) hx hb d_M_remove_54 hl (by decide) rfl (fun ls hl => ?_)
    refine lv_aload_n hx hb d_M_remove_56 rfl (lv_at hl 3 rfl) ?_
    refine va_get (D := D) (cl := classes) (ci := 0) (v := .ref a.1) (C := "StepMap") (T := F_M) (N := 6) hx hb ht i_M hown hk.1 hP 0 rfl rfl 1 (by decide) (ht _ mw_1_49) (fun _ h9 => h9) rfl d_M_remove_57 ?_
    refine lv_iload_n hx hb d_M_remove_60 rfl (lv_at hl 2 rfl) ?_
    refine xV_i (D := D) (k := 1) (ci := 1) (q := ("StepMap$Table", F_T, 5)) (wr := ((h, .inr (0, [.int (nI hf), .ref a.1, .ref b.1, .int (nI cur), .int (nI cnt), .int wk])) :: (wT b cA hf (nI oc) 0 O))) (wb := fun u => (wM h hf a.1 b.1 a b cA (nI cur) (nI cnt) wk (nI fc) (0 + nI (fct fc F k)) F (nI oc) 0 O)) (rest := []) ⟨hx, hb, hml, hown, ht⟩ (c_T_holds l D cA a hf fc (0 + nI (fct fc F k)) F (fsl fc F k) hh (by omega)) gv_M_55 (by decide +kernel) rfl ⟨Nat.le_of_ble_eq_true rfl, Nat.le_of_ble_eq_true rfl⟩ hk hP hD hS hA [1, 2, 3, 4] [0, 5, 6, 7, 8] [0, 5, 6, 7, 8, 1, 2, 3, 4] rfl rfl (fun _ => rfl) ⟨rfl, rfl, rfl⟩ (by decide) rfl rfl hl.1 rfl (Nat.le_of_ble_eq_true rfl) d_M_remove_61 ⟨Nat.zero_le _, Nat.zero_le _⟩ (fun r u H locs hp hP hD hS => ?_)
    have hp : r = (if F.2.2 (fsl fc F k) = 1 then 1 else 0) := hp
    subst hp
    have hP : va_P D classes (wM h hf a.1 b.1 a b cA (nI cur) (nI cnt) wk (nI fc) (0 + nI (fct fc F k)) F (nI oc) 0 O) H := hP
    have hD : va_D A (wM h hf a.1 b.1 a b cA (nI cur) (nI cnt) wk (nI fc) (0 + nI (fct fc F k)) F (nI oc) 0 O) := hD
    refine x_top (z := 1) (if10 h1) ?_
    refine lv_if_eq (tgt := 78) hx hb d_M_remove_64 (by decide) (fun c9 => absurd c9 (by decide)) (fun _ => ?_)
    refine lv_aload_n hx hb d_M_remove_67 rfl (lv_at hl 3 rfl) ?_
    refine va_get (D := D) (cl := classes) (ci := 0) (v := .ref a.1) (C := "StepMap") (T := F_M) (N := 6) hx hb ht i_M hown hk.1 hP 0 rfl rfl 1 (by decide) (ht _ mw_1_49) (fun _ h9 => h9) rfl d_M_remove_68 ?_
    refine lv_iload_n hx hb d_M_remove_71 rfl (lv_at hl 2 rfl) ?_
    have hcp : 1 ≤ cnt := by
      have z1 := hc_pos hsl h1
      rcases hiv.2.2.2.2.2.2 with ⟨-, -, z2, -⟩ | ⟨-, -, -, -, z2, -⟩
      · omega
      · have := z2.2.2.2.2.2.2.2.2; omega
    refine xV_v (D := D) (k := 1) (ci := 1) (q := ("StepMap$Table", F_T, 5)) (wr := ((h, .inr (0, [.int (nI hf), .ref a.1, .ref b.1, .int (nI cur), .int (nI cnt), .int wk])) :: (wT b cA hf (nI oc) 0 O))) (wb := fun u => (wM h hf a.1 b.1 a b cA (nI cur) (nI cnt) wk (nI fc) ((0 + nI (fct fc F k)) + nI (cuc fc F (fsl fc F k))) (cup fc F (fsl fc F k)) (nI oc) 0 O)) (rest := []) ⟨hx, hb, hml, hown, ht⟩ (c_T_closeUp l D cA a hf fc (0 + nI (fct fc F k)) F (fsl fc F k) hpf hfh hh hiv.2.2.2.1 hsl h1 (enz_of hpf (nx_lt hpf _) hiv.zero)) gv_M_101 (by decide +kernel) rfl ⟨Nat.le_of_ble_eq_true rfl, Nat.le_of_ble_eq_true rfl⟩ hk hP hD hS hA [1, 2, 3, 4] [0, 5, 6, 7, 8] [0, 5, 6, 7, 8, 1, 2, 3, 4] rfl rfl (fun _ => rfl) ⟨rfl, rfl, rfl⟩ (by decide) rfl rfl hl.1 rfl (Nat.le_of_ble_eq_true rfl) d_M_remove_72 ⟨Nat.zero_le _, Nat.zero_le _⟩ (fun u H locs hp hP hD hS => ?_)
    have hP : va_P D classes (wM h hf a.1 b.1 a b cA (nI cur) (nI cnt) wk (nI fc) ((0 + nI (fct fc F k)) + nI (cuc fc F (fsl fc F k))) (cup fc F (fsl fc F k)) (nI oc) 0 O) H := hP
    have hD : va_D A (wM h hf a.1 b.1 a b cA (nI cur) (nI cnt) wk (nI fc) ((0 + nI (fct fc F k)) + nI (cuc fc F (fsl fc F k))) (cup fc F (fsl fc F k)) (nI oc) 0 O) := hD
    refine lv_goto (tgt := 93) hx hb d_M_remove_75 (by decide) ?_
    refine lv_iload hx hb d_M_remove_93 (lv_at hl 0 rfl) ?_
    refine lv_if_eq (tgt := 112) hx hb d_M_remove_95 (by decide) (fun c9 => absurd c9 (by decide)) (fun _ => ?_)
    refine lv_aload_n hx hb d_M_remove_98 rfl (lv_at hl 3 rfl) ?_
    refine lv_dup hx hb d_M_remove_99 rfl ?_
    refine va_get (D := D) (cl := classes) (ci := 0) (v := .int (nI cnt)) (C := "StepMap") (T := F_M) (N := 6) hx hb ht i_M hown hk.1 hP 0 rfl rfl 4 (by decide) (ht _ mw_1_52) (fun _ h9 => h9) rfl d_M_remove_100 ?_
    refine lv_iconst (v := 1) hx hb d_M_remove_103 (by decide) ?_
    refine lv_isub hx hb d_M_remove_104 ?_
    refine x_top (z := (nI (cnt - 1))) (pk_sub hcp) ?_
    refine va_put (D := D) (cl := classes) (ci := 0) (v := .int (nI (cnt - 1))) (ty := .int) (C := "StepMap") (T := F_M) (N := 6) hx hb ht i_M tt_M tt_M_ok n_M hown hk.1 hP hD hS 0 rfl rfl 4 (by decide) (ht _ mw_1_52) (fun _ h9 => h9) rfl (by decide +kernel) rfl rfl (Nat.le_of_ble_eq_true rfl) d_M_remove_105 (fun H locs hP hD hS => ?_)
    have hP : va_P D classes (wM h hf a.1 b.1 a b cA (nI cur) (nI (cnt - 1)) wk (nI fc) ((0 + nI (fct fc F k)) + nI (cuc fc F (fsl fc F k))) (cup fc F (fsl fc F k)) (nI oc) 0 O) H := hP
    have hD : va_D A (wM h hf a.1 b.1 a b cA (nI cur) (nI (cnt - 1)) wk (nI fc) ((0 + nI (fct fc F k)) + nI (cuc fc F (fsl fc F k))) (cup fc F (fsl fc F k)) (nI oc) 0 O) := hD
    refine lv_aload_n hx hb d_M_remove_108 rfl (lv_at hl 3 rfl) ?_
    refine xV_v (D := D) (k := 0) (ci := 0) (q := ("StepMap", F_M, 6)) (wr := []) (wb := fun u => (wS h hf u.1 u.2.1 cA (stl fc (cup fc F (fsl fc F k)) oc O cur (cnt - 1) wk) u.2.2.1 u.2.2.2)) (rest := []) ⟨hx, hb, hml, hown, ht⟩ (c_M_settle l D cA h hf a b cur (cnt - 1) fc oc wk ((0 + nI (fct fc F k)) + nI (cuc fc F (fsl fc F k))) 0 (cup fc F (fsl fc F k)) O (wkc fc F oc O cur k + cuc fc F (fsl fc F k)) (remF_SI hiv hsl h1) (by rw [← nI_add, ← wkc_1 h1]; ac_rfl)) gv_M_95 (by decide +kernel) rfl ⟨Nat.le_of_ble_eq_true rfl, Nat.le_of_ble_eq_true rfl⟩ hk hP hD hS hA [0, 1, 2, 3, 4, 5, 6, 7, 8] [] [0, 1, 2, 3, 4, 5, 6, 7, 8] rfl rfl (fun _ => rfl) ⟨rfl, rfl, rfl⟩ (by decide) rfl rfl hl.1 rfl (Nat.le_of_ble_eq_true rfl) d_M_remove_109 ⟨Nat.zero_le _, Nat.zero_le _⟩ (fun u H locs hp hP hD hS => ?_)
    have hP : va_P D classes (wS h hf u.1 u.2.1 cA (stl fc (cup fc F (fsl fc F k)) oc O cur (cnt - 1) wk) u.2.2.1 u.2.2.2) H := hP
    have hD : va_D A (wS h hf u.1 u.2.1 cA (stl fc (cup fc F (fsl fc F k)) oc O cur (cnt - 1) wk) u.2.2.1 u.2.2.2) := hD
    obtain ⟨a2, b2, v1, v2⟩ := u
    have hsum : v1 + v2 = nI (stw fc (cup fc F (fsl fc F k)) oc O cur (wkc fc F oc O cur k + cuc fc F (fsl fc F k))) := hp
    have eT := stl_wk fc (cup fc F (fsl fc F k)) oc O cur (cnt - 1) wk (nI (stw fc (cup fc F (fsl fc F k)) oc O cur (wkc fc F oc O cur k + cuc fc F (fsl fc F k))))
    obtain ⟨S2, eS2⟩ : ∃ z, z = (stl fc (cup fc F (fsl fc F k)) oc O cur (cnt - 1) wk) := ⟨_, rfl⟩
    rw [← eS2] at hP hD eT
    have hP : va_P D classes (wM h hf a2.1 b2.1 a2 b2 cA (nI S2.2.2.2.2.1) (nI S2.2.2.2.2.2.1) S2.2.2.2.2.2.2 (nI S2.1) v1 S2.2.1 (nI S2.2.2.1) v2 S2.2.2.2.1) H := hP
    have hD : va_D A (wM h hf a2.1 b2.1 a2 b2 cA (nI S2.2.2.2.2.1) (nI S2.2.2.2.2.2.1) S2.2.2.2.2.2.2 (nI S2.1) v1 S2.2.1 (nI S2.2.2.1) v2 S2.2.2.2.1) := hD
    refine lv_aload_n hx hb d_M_remove_112 rfl (lv_at hl 3 rfl) ?_
    refine xV_v (D := D) (k := 0) (ci := 0) (q := ("StepMap", F_M, 6)) (wr := []) (wb := fun u => (wM h hf a2.1 b2.1 a2 b2 cA (nI S2.2.2.2.2.1) (nI S2.2.2.2.2.2.1) (v1 + v2) (nI S2.1) v1 S2.2.1 (nI S2.2.2.1) v2 S2.2.2.2.1)) (rest := []) ⟨hx, hb, hml, hown, ht⟩ (c_M_end l D cA h hf a2 b2 S2.2.2.2.2.1 S2.2.2.2.2.2.1 S2.1 S2.2.2.1 S2.2.2.2.2.2.2 v1 v2 S2.2.1 S2.2.2.2.1) gv_M_98 (by decide +kernel) rfl ⟨Nat.le_of_ble_eq_true rfl, Nat.le_of_ble_eq_true rfl⟩ hk hP hD hS hA [0, 1, 2, 3, 4, 5, 6, 7, 8] [] [0, 1, 2, 3, 4, 5, 6, 7, 8] rfl rfl (fun _ => rfl) ⟨rfl, rfl, rfl⟩ (by decide) rfl rfl hl.1 rfl (Nat.le_of_ble_eq_true rfl) d_M_remove_113 ⟨Nat.zero_le _, Nat.zero_le _⟩ (fun u H locs hp hP hD hS => ?_)
    have hP : va_P D classes (wM h hf a2.1 b2.1 a2 b2 cA (nI S2.2.2.2.2.1) (nI S2.2.2.2.2.2.1) (v1 + v2) (nI S2.1) v1 S2.2.1 (nI S2.2.2.1) v2 S2.2.2.2.1) H := hP
    have hD : va_D A (wM h hf a2.1 b2.1 a2 b2 cA (nI S2.2.2.2.2.1) (nI S2.2.2.2.2.2.1) (v1 + v2) (nI S2.1) v1 S2.2.1 (nI S2.2.2.1) v2 S2.2.2.2.1) := hD
    refine lv_iload hx hb d_M_remove_116 (lv_at hl 0 rfl) ?_
    have eS : (orem fc F oc O cur cnt k) = _ := (by unfold orem; rw [if_pos h1] : (orem fc F oc O cur cnt k) = _)
    rw [hsum] at hP hD
    have hP : va_P D classes (wS h hf a2 b2 cA (orem fc F oc O cur cnt k) v1 v2) H := by rw [eS, eT]; exact hP
    have hD : va_D A (wS h hf a2 b2 cA (orem fc F oc O cur cnt k) v1 v2) := by rw [eS, eT]; exact hD
    exact hret _ _ _ _ _ _ (a2, b2, v1, v2) d_M_remove_118 (Or.inr rfl) hP hD hS (by unfold oremA; rw [if_pos h1]) rfl
  · skip
    refine x_top (z := 0) (if00 h1) ?_
    refine lv_if_eq (tgt := 28) hx hb d_M_remove_21 (by decide) (fun _ => ?_) (fun c9 => absurd (rfl) c9)
    refine lv_aload_n hx hb d_M_remove_28 rfl (lv_at hl 1 rfl) ?_
    refine lv_iload_n hx hb d_M_remove_29 rfl (lv_at hl 2 rfl) ?_
    refine xV_i (D := D) (k := 1) (ci := 0) (q := ("StepMap", F_M, 6)) (wr := []) (wb := fun u => (wM h hf a.1 b.1 a b cA (nI cur) (nI cnt) wk (nI fc) (0 + nI (fct fc F k)) F (nI oc) (0 + nI (if cur < oc then fct oc O k else 0)) O)) (rest := []) ⟨hx, hb, hml, hown, ht⟩ (c_M_findOld l D cA h hf a b cur cnt fc oc wk (0 + nI (fct fc F k)) 0 F O k hcu (by omega) hh hlk) gv_M_88 (by decide +kernel) rfl ⟨Nat.le_of_ble_eq_true rfl, Nat.le_of_ble_eq_true rfl⟩ hk hP hD hS hA [0, 1, 2, 3, 4, 5, 6, 7, 8] [] [0, 1, 2, 3, 4, 5, 6, 7, 8] rfl rfl (fun _ => rfl) ⟨rfl, rfl, rfl⟩ (by decide) rfl rfl hl.1 rfl (Nat.le_of_ble_eq_true rfl) d_M_remove_30 ⟨Nat.zero_le _, Nat.zero_le _⟩ (fun r u H locs hp hP hD hS => ?_)
    have hp : r = (if inO oc O cur k then nI (fsl oc O k) else -1) := hp
    subst hp
    have hP : va_P D classes (wM h hf a.1 b.1 a b cA (nI cur) (nI cnt) wk (nI fc) (0 + nI (fct fc F k)) F (nI oc) (0 + nI (if cur < oc then fct oc O k else 0)) O) H := hP
    have hD : va_D A (wM h hf a.1 b.1 a b cA (nI cur) (nI cnt) wk (nI fc) (0 + nI (fct fc F k)) F (nI oc) (0 + nI (if cur < oc then fct oc O k else 0)) O) := hD
    refine lv_istore_n (lv' := [(3, .int (if inO oc O cur k then nI (fsl oc O k) else -1)), (2, .int (nI (fsl fc F k))), (0, .ref h), (1, .int k)]) hx hb d_M_remove_33 rfl hl (by decide) rfl (fun ls hl => ?_)
    refine lv_aload_n hx hb d_M_remove_34 rfl (lv_at hl 2 rfl) ?_
    refine va_get (D := D) (cl := classes) (ci := 0) (v := .ref a.1) (C := "StepMap") (T := F_M) (N := 6) hx hb ht i_M hown hk.1 hP 0 rfl rfl 1 (by decide) (ht _ mw_1_49) (fun _ h9 => h9) rfl d_M_remove_35 ?_
    refine lv_iload_n hx hb d_M_remove_38 rfl (lv_at hl 1 rfl) ?_
    refine xV_i (D := D) (k := 1) (ci := 1) (q := ("StepMap$Table", F_T, 5)) (wr := ((h, .inr (0, [.int (nI hf), .ref a.1, .ref b.1, .int (nI cur), .int (nI cnt), .int wk])) :: (wT b cA hf (nI oc) (0 + nI (if cur < oc then fct oc O k else 0)) O))) (wb := fun u => (wM h hf a.1 b.1 a b cA (nI cur) (nI cnt) wk (nI fc) (0 + nI (fct fc F k)) F (nI oc) (0 + nI (if cur < oc then fct oc O k else 0)) O)) (rest := []) ⟨hx, hb, hml, hown, ht⟩ (c_T_holds l D cA a hf fc (0 + nI (fct fc F k)) F (fsl fc F k) hh (by omega)) gv_M_55 (by decide +kernel) rfl ⟨Nat.le_of_ble_eq_true rfl, Nat.le_of_ble_eq_true rfl⟩ hk hP hD hS hA [1, 2, 3, 4] [0, 5, 6, 7, 8] [0, 5, 6, 7, 8, 1, 2, 3, 4] rfl rfl (fun _ => rfl) ⟨rfl, rfl, rfl⟩ (by decide) rfl rfl hl.1 rfl (Nat.le_of_ble_eq_true rfl) d_M_remove_39 ⟨Nat.zero_le _, Nat.zero_le _⟩ (fun r u H locs hp hP hD hS => ?_)
    have hp : r = (if F.2.2 (fsl fc F k) = 1 then 1 else 0) := hp
    subst hp
    have hP : va_P D classes (wM h hf a.1 b.1 a b cA (nI cur) (nI cnt) wk (nI fc) (0 + nI (fct fc F k)) F (nI oc) (0 + nI (if cur < oc then fct oc O k else 0)) O) H := hP
    have hD : va_D A (wM h hf a.1 b.1 a b cA (nI cur) (nI cnt) wk (nI fc) (0 + nI (fct fc F k)) F (nI oc) (0 + nI (if cur < oc then fct oc O k else 0)) O) := hD
    refine x_top (z := 0) (if00 h1) ?_
    refine lv_if_ne (tgt := 49) hx hb d_M_remove_42 (by decide) (fun c9 => absurd (rfl) c9) (fun _ => ?_)
    by_cases h2 : inO oc O cur k
    · skip
      have hoo := hlk h2.1
      have hso := (fsl_spec hoo.1 hoo.2.2).1
      refine lv_iload_n hx hb d_M_remove_45 rfl (lv_at hl 0 rfl) ?_
      refine x_top (z := (nI (fsl oc O k))) (if_pos h2) ?_
      refine lv_if_lt (tgt := 53) hx hb d_M_remove_46 (by decide) (fun c9 => absurd c9 (nI_n0 (by omega))) (fun _ => ?_)
      refine lv_iconst (v := 1) hx hb d_M_remove_49 (by decide) ?_
      refine lv_goto (tgt := 54) hx hb d_M_remove_50 (by decide) ?_
      refine lv_istore (lv' := [(4, .int 1), (3, .int (if inO oc O cur k then nI (fsl oc O k) else -1)), (2, .int (nI (fsl fc F k))), (0, .ref h), (1, .int k)]) hx hb d_M_remove_54 hl (by decide) rfl (fun ls hl => ?_)
      refine lv_aload_n hx hb d_M_remove_56 rfl (lv_at hl 3 rfl) ?_
      refine va_get (D := D) (cl := classes) (ci := 0) (v := .ref a.1) (C := "StepMap") (T := F_M) (N := 6) hx hb ht i_M hown hk.1 hP 0 rfl rfl 1 (by decide) (ht _ mw_1_49) (fun _ h9 => h9) rfl d_M_remove_57 ?_
      refine lv_iload_n hx hb d_M_remove_60 rfl (lv_at hl 2 rfl) ?_
      refine xV_i (D := D) (k := 1) (ci := 1) (q := ("StepMap$Table", F_T, 5)) (wr := ((h, .inr (0, [.int (nI hf), .ref a.1, .ref b.1, .int (nI cur), .int (nI cnt), .int wk])) :: (wT b cA hf (nI oc) (0 + nI (if cur < oc then fct oc O k else 0)) O))) (wb := fun u => (wM h hf a.1 b.1 a b cA (nI cur) (nI cnt) wk (nI fc) (0 + nI (fct fc F k)) F (nI oc) (0 + nI (if cur < oc then fct oc O k else 0)) O)) (rest := []) ⟨hx, hb, hml, hown, ht⟩ (c_T_holds l D cA a hf fc (0 + nI (fct fc F k)) F (fsl fc F k) hh (by omega)) gv_M_55 (by decide +kernel) rfl ⟨Nat.le_of_ble_eq_true rfl, Nat.le_of_ble_eq_true rfl⟩ hk hP hD hS hA [1, 2, 3, 4] [0, 5, 6, 7, 8] [0, 5, 6, 7, 8, 1, 2, 3, 4] rfl rfl (fun _ => rfl) ⟨rfl, rfl, rfl⟩ (by decide) rfl rfl hl.1 rfl (Nat.le_of_ble_eq_true rfl) d_M_remove_61 ⟨Nat.zero_le _, Nat.zero_le _⟩ (fun r u H locs hp hP hD hS => ?_)
      have hp : r = (if F.2.2 (fsl fc F k) = 1 then 1 else 0) := hp
      subst hp
      have hP : va_P D classes (wM h hf a.1 b.1 a b cA (nI cur) (nI cnt) wk (nI fc) (0 + nI (fct fc F k)) F (nI oc) (0 + nI (if cur < oc then fct oc O k else 0)) O) H := hP
      have hD : va_D A (wM h hf a.1 b.1 a b cA (nI cur) (nI cnt) wk (nI fc) (0 + nI (fct fc F k)) F (nI oc) (0 + nI (if cur < oc then fct oc O k else 0)) O) := hD
      refine x_top (z := 0) (if00 h1) ?_
      refine lv_if_eq (tgt := 78) hx hb d_M_remove_64 (by decide) (fun _ => ?_) (fun c9 => absurd (rfl) c9)
      refine lv_iload hx hb d_M_remove_78 (lv_at hl 0 rfl) ?_
      refine lv_if_eq (tgt := 93) hx hb d_M_remove_80 (by decide) (fun c9 => absurd c9 (by decide)) (fun _ => ?_)
      refine lv_aload_n hx hb d_M_remove_83 rfl (lv_at hl 3 rfl) ?_
      refine va_get (D := D) (cl := classes) (ci := 0) (v := .ref b.1) (C := "StepMap") (T := F_M) (N := 6) hx hb ht i_M hown hk.1 hP 0 rfl rfl 2 (by decide) (ht _ mw_1_50) (fun _ h9 => h9) rfl d_M_remove_84 ?_
      refine va_getN (D := D) (cl := classes) (ci := 1) (v := .ref b.2.2.2) (C := "StepMap$Table") (T := F_T) (N := 5) hx hb ht i_T hown hk.1 hP 5 rfl rfl 2 (by decide) (va_Nw.use rfl hk.2.2.2.1) (fun _ h9 => h9) rfl d_M_remove_87 ?_
      refine lv_iload_n hx hb d_M_remove_90 rfl (lv_at hl 1 rfl) ?_
      refine x_top (z := (nI (fsl oc O k))) (if_pos h2) ?_
      have hcp : 1 ≤ cnt := by
        have z1 := hc_pos hso h2.2
        have := (hiv.old h2.1).2.2.2.2.2.2.2.2.2.2; omega
      refine lv_iconst (v := 2) hx hb d_M_remove_91 (by decide) ?_
      refine x_ast hx hb hk hP hD hS 8 0 rfl rfl (i := (fsl oc O k)) (x := 2) (by omega) (by omega) d_M_remove_92 (fun H locs hP hD hS => ?_)
      have hP : va_P D classes (wM h hf a.1 b.1 a b cA (nI cur) (nI cnt) wk (nI fc) (0 + nI (fct fc F k)) F (nI oc) (0 + nI (if cur < oc then fct oc O k else 0)) (O.1, O.2.1, (upd O.2.2 (fsl oc O k) 2))) H := hP
      have hD : va_D A (wM h hf a.1 b.1 a b cA (nI cur) (nI cnt) wk (nI fc) (0 + nI (fct fc F k)) F (nI oc) (0 + nI (if cur < oc then fct oc O k else 0)) (O.1, O.2.1, (upd O.2.2 (fsl oc O k) 2))) := hD
      refine lv_iload hx hb d_M_remove_93 (lv_at hl 0 rfl) ?_
      refine lv_if_eq (tgt := 112) hx hb d_M_remove_95 (by decide) (fun c9 => absurd c9 (by decide)) (fun _ => ?_)
      refine lv_aload_n hx hb d_M_remove_98 rfl (lv_at hl 3 rfl) ?_
      refine lv_dup hx hb d_M_remove_99 rfl ?_
      refine va_get (D := D) (cl := classes) (ci := 0) (v := .int (nI cnt)) (C := "StepMap") (T := F_M) (N := 6) hx hb ht i_M hown hk.1 hP 0 rfl rfl 4 (by decide) (ht _ mw_1_52) (fun _ h9 => h9) rfl d_M_remove_100 ?_
      refine lv_iconst (v := 1) hx hb d_M_remove_103 (by decide) ?_
      refine lv_isub hx hb d_M_remove_104 ?_
      refine x_top (z := (nI (cnt - 1))) (pk_sub hcp) ?_
      refine va_put (D := D) (cl := classes) (ci := 0) (v := .int (nI (cnt - 1))) (ty := .int) (C := "StepMap") (T := F_M) (N := 6) hx hb ht i_M tt_M tt_M_ok n_M hown hk.1 hP hD hS 0 rfl rfl 4 (by decide) (ht _ mw_1_52) (fun _ h9 => h9) rfl (by decide +kernel) rfl rfl (Nat.le_of_ble_eq_true rfl) d_M_remove_105 (fun H locs hP hD hS => ?_)
      have hP : va_P D classes (wM h hf a.1 b.1 a b cA (nI cur) (nI (cnt - 1)) wk (nI fc) (0 + nI (fct fc F k)) F (nI oc) (0 + nI (if cur < oc then fct oc O k else 0)) (O.1, O.2.1, (upd O.2.2 (fsl oc O k) 2))) H := hP
      have hD : va_D A (wM h hf a.1 b.1 a b cA (nI cur) (nI (cnt - 1)) wk (nI fc) (0 + nI (fct fc F k)) F (nI oc) (0 + nI (if cur < oc then fct oc O k else 0)) (O.1, O.2.1, (upd O.2.2 (fsl oc O k) 2))) := hD
      refine lv_aload_n hx hb d_M_remove_108 rfl (lv_at hl 3 rfl) ?_
      refine xV_v (D := D) (k := 0) (ci := 0) (q := ("StepMap", F_M, 6)) (wr := []) (wb := fun u => (wS h hf u.1 u.2.1 cA (stl fc F oc (pT O (fsl oc O k)) cur (cnt - 1) wk) u.2.2.1 u.2.2.2)) (rest := []) ⟨hx, hb, hml, hown, ht⟩ (c_M_settle l D cA h hf a b cur (cnt - 1) fc oc wk (0 + nI (fct fc F k)) (0 + nI (if cur < oc then fct oc O k else 0)) F (pT O (fsl oc O k)) (wkc fc F oc O cur k) (remO_SI hiv h2.1 hso h2.2) (wkc_0 h1)) gv_M_95 (by decide +kernel) rfl ⟨Nat.le_of_ble_eq_true rfl, Nat.le_of_ble_eq_true rfl⟩ hk hP hD hS hA [0, 1, 2, 3, 4, 5, 6, 7, 8] [] [0, 1, 2, 3, 4, 5, 6, 7, 8] rfl rfl (fun _ => rfl) ⟨rfl, rfl, rfl⟩ (by decide) rfl rfl hl.1 rfl (Nat.le_of_ble_eq_true rfl) d_M_remove_109 ⟨Nat.zero_le _, Nat.zero_le _⟩ (fun u H locs hp hP hD hS => ?_)
      have hP : va_P D classes (wS h hf u.1 u.2.1 cA (stl fc F oc (pT O (fsl oc O k)) cur (cnt - 1) wk) u.2.2.1 u.2.2.2) H := hP
      have hD : va_D A (wS h hf u.1 u.2.1 cA (stl fc F oc (pT O (fsl oc O k)) cur (cnt - 1) wk) u.2.2.1 u.2.2.2) := hD
      obtain ⟨a2, b2, v1, v2⟩ := u
      have hsum : v1 + v2 = nI (stw fc F oc (pT O (fsl oc O k)) cur (wkc fc F oc O cur k)) := hp
      have eT := stl_wk fc F oc (pT O (fsl oc O k)) cur (cnt - 1) wk (nI (stw fc F oc (pT O (fsl oc O k)) cur (wkc fc F oc O cur k)))
      obtain ⟨S2, eS2⟩ : ∃ z, z = (stl fc F oc (pT O (fsl oc O k)) cur (cnt - 1) wk) := ⟨_, rfl⟩
      rw [← eS2] at hP hD eT
      have hP : va_P D classes (wM h hf a2.1 b2.1 a2 b2 cA (nI S2.2.2.2.2.1) (nI S2.2.2.2.2.2.1) S2.2.2.2.2.2.2 (nI S2.1) v1 S2.2.1 (nI S2.2.2.1) v2 S2.2.2.2.1) H := hP
      have hD : va_D A (wM h hf a2.1 b2.1 a2 b2 cA (nI S2.2.2.2.2.1) (nI S2.2.2.2.2.2.1) S2.2.2.2.2.2.2 (nI S2.1) v1 S2.2.1 (nI S2.2.2.1) v2 S2.2.2.2.1) := hD
      refine lv_aload_n hx hb d_M_remove_112 rfl (lv_at hl 3 rfl) ?_
      refine xV_v (D := D) (k := 0) (ci := 0) (q := ("StepMap", F_M, 6)) (wr := []) (wb := fun u => (wM h hf a2.1 b2.1 a2 b2 cA (nI S2.2.2.2.2.1) (nI S2.2.2.2.2.2.1) (v1 + v2) (nI S2.1) v1 S2.2.1 (nI S2.2.2.1) v2 S2.2.2.2.1)) (rest := []) ⟨hx, hb, hml, hown, ht⟩ (c_M_end l D cA h hf a2 b2 S2.2.2.2.2.1 S2.2.2.2.2.2.1 S2.1 S2.2.2.1 S2.2.2.2.2.2.2 v1 v2 S2.2.1 S2.2.2.2.1) gv_M_98 (by decide +kernel) rfl ⟨Nat.le_of_ble_eq_true rfl, Nat.le_of_ble_eq_true rfl⟩ hk hP hD hS hA [0, 1, 2, 3, 4, 5, 6, 7, 8] [] [0, 1, 2, 3, 4, 5, 6, 7, 8] rfl rfl (fun _ => rfl) ⟨rfl, rfl, rfl⟩ (by decide) rfl rfl hl.1 rfl (Nat.le_of_ble_eq_true rfl) d_M_remove_113 ⟨Nat.zero_le _, Nat.zero_le _⟩ (fun u H locs hp hP hD hS => ?_)
      have hP : va_P D classes (wM h hf a2.1 b2.1 a2 b2 cA (nI S2.2.2.2.2.1) (nI S2.2.2.2.2.2.1) (v1 + v2) (nI S2.1) v1 S2.2.1 (nI S2.2.2.1) v2 S2.2.2.2.1) H := hP
      have hD : va_D A (wM h hf a2.1 b2.1 a2 b2 cA (nI S2.2.2.2.2.1) (nI S2.2.2.2.2.2.1) (v1 + v2) (nI S2.1) v1 S2.2.1 (nI S2.2.2.1) v2 S2.2.2.2.1) := hD
      refine lv_iload hx hb d_M_remove_116 (lv_at hl 0 rfl) ?_
      have eS : (orem fc F oc O cur cnt k) = _ := (by unfold orem; rw [if_neg h1, if_pos h2] : (orem fc F oc O cur cnt k) = _)
      rw [hsum] at hP hD
      have hP : va_P D classes (wS h hf a2 b2 cA (orem fc F oc O cur cnt k) v1 v2) H := by rw [eS, eT]; exact hP
      have hD : va_D A (wS h hf a2 b2 cA (orem fc F oc O cur cnt k) v1 v2) := by rw [eS, eT]; exact hD
      exact hret _ _ _ _ _ _ (a2, b2, v1, v2) d_M_remove_118 (Or.inr rfl) hP hD hS (by unfold oremA; rw [if_neg h1, if_pos h2]) rfl
    · skip
      refine lv_iload_n hx hb d_M_remove_45 rfl (lv_at hl 0 rfl) ?_
      refine x_top (z := (-1)) (if_neg h2) ?_
      refine lv_if_lt (tgt := 53) hx hb d_M_remove_46 (by decide) (fun _ => ?_) (fun c9 => absurd (by decide) c9)
      refine lv_iconst (v := 0) hx hb d_M_remove_53 (by decide) ?_
      refine lv_istore (lv' := [(4, .int 0), (3, .int (if inO oc O cur k then nI (fsl oc O k) else -1)), (2, .int (nI (fsl fc F k))), (0, .ref h), (1, .int k)]) hx hb d_M_remove_54 hl (by decide) rfl (fun ls hl => ?_)
      refine lv_aload_n hx hb d_M_remove_56 rfl (lv_at hl 3 rfl) ?_
      refine va_get (D := D) (cl := classes) (ci := 0) (v := .ref a.1) (C := "StepMap") (T := F_M) (N := 6) hx hb ht i_M hown hk.1 hP 0 rfl rfl 1 (by decide) (ht _ mw_1_49) (fun _ h9 => h9) rfl d_M_remove_57 ?_
      refine lv_iload_n hx hb d_M_remove_60 rfl (lv_at hl 2 rfl) ?_
      refine xV_i (D := D) (k := 1) (ci := 1) (q := ("StepMap$Table", F_T, 5)) (wr := ((h, .inr (0, [.int (nI hf), .ref a.1, .ref b.1, .int (nI cur), .int (nI cnt), .int wk])) :: (wT b cA hf (nI oc) (0 + nI (if cur < oc then fct oc O k else 0)) O))) (wb := fun u => (wM h hf a.1 b.1 a b cA (nI cur) (nI cnt) wk (nI fc) (0 + nI (fct fc F k)) F (nI oc) (0 + nI (if cur < oc then fct oc O k else 0)) O)) (rest := []) ⟨hx, hb, hml, hown, ht⟩ (c_T_holds l D cA a hf fc (0 + nI (fct fc F k)) F (fsl fc F k) hh (by omega)) gv_M_55 (by decide +kernel) rfl ⟨Nat.le_of_ble_eq_true rfl, Nat.le_of_ble_eq_true rfl⟩ hk hP hD hS hA [1, 2, 3, 4] [0, 5, 6, 7, 8] [0, 5, 6, 7, 8, 1, 2, 3, 4] rfl rfl (fun _ => rfl) ⟨rfl, rfl, rfl⟩ (by decide) rfl rfl hl.1 rfl (Nat.le_of_ble_eq_true rfl) d_M_remove_61 ⟨Nat.zero_le _, Nat.zero_le _⟩ (fun r u H locs hp hP hD hS => ?_)
      have hp : r = (if F.2.2 (fsl fc F k) = 1 then 1 else 0) := hp
      subst hp
      have hP : va_P D classes (wM h hf a.1 b.1 a b cA (nI cur) (nI cnt) wk (nI fc) (0 + nI (fct fc F k)) F (nI oc) (0 + nI (if cur < oc then fct oc O k else 0)) O) H := hP
      have hD : va_D A (wM h hf a.1 b.1 a b cA (nI cur) (nI cnt) wk (nI fc) (0 + nI (fct fc F k)) F (nI oc) (0 + nI (if cur < oc then fct oc O k else 0)) O) := hD
      refine x_top (z := 0) (if00 h1) ?_
      refine lv_if_eq (tgt := 78) hx hb d_M_remove_64 (by decide) (fun _ => ?_) (fun c9 => absurd (rfl) c9)
      refine lv_iload hx hb d_M_remove_78 (lv_at hl 0 rfl) ?_
      refine lv_if_eq (tgt := 93) hx hb d_M_remove_80 (by decide) (fun _ => ?_) (fun c9 => absurd (rfl) c9)
      refine lv_iload hx hb d_M_remove_93 (lv_at hl 0 rfl) ?_
      refine lv_if_eq (tgt := 112) hx hb d_M_remove_95 (by decide) (fun _ => ?_) (fun c9 => absurd (rfl) c9)
      refine lv_aload_n hx hb d_M_remove_112 rfl (lv_at hl 3 rfl) ?_
      refine xV_v (D := D) (k := 0) (ci := 0) (q := ("StepMap", F_M, 6)) (wr := []) (wb := fun u => (wM h hf a.1 b.1 a b cA (nI cur) (nI cnt) ((0 + nI (fct fc F k)) + (0 + nI (if cur < oc then fct oc O k else 0))) (nI fc) (0 + nI (fct fc F k)) F (nI oc) (0 + nI (if cur < oc then fct oc O k else 0)) O)) (rest := []) ⟨hx, hb, hml, hown, ht⟩ (c_M_end l D cA h hf a b cur cnt fc oc wk (0 + nI (fct fc F k)) (0 + nI (if cur < oc then fct oc O k else 0)) F O) gv_M_98 (by decide +kernel) rfl ⟨Nat.le_of_ble_eq_true rfl, Nat.le_of_ble_eq_true rfl⟩ hk hP hD hS hA [0, 1, 2, 3, 4, 5, 6, 7, 8] [] [0, 1, 2, 3, 4, 5, 6, 7, 8] rfl rfl (fun _ => rfl) ⟨rfl, rfl, rfl⟩ (by decide) rfl rfl hl.1 rfl (Nat.le_of_ble_eq_true rfl) d_M_remove_113 ⟨Nat.zero_le _, Nat.zero_le _⟩ (fun u H locs hp hP hD hS => ?_)
      have hP : va_P D classes (wM h hf a.1 b.1 a b cA (nI cur) (nI cnt) ((0 + nI (fct fc F k)) + (0 + nI (if cur < oc then fct oc O k else 0))) (nI fc) (0 + nI (fct fc F k)) F (nI oc) (0 + nI (if cur < oc then fct oc O k else 0)) O) H := hP
      have hD : va_D A (wM h hf a.1 b.1 a b cA (nI cur) (nI cnt) ((0 + nI (fct fc F k)) + (0 + nI (if cur < oc then fct oc O k else 0))) (nI fc) (0 + nI (fct fc F k)) F (nI oc) (0 + nI (if cur < oc then fct oc O k else 0)) O) := hD
      refine lv_iload hx hb d_M_remove_116 (lv_at hl 0 rfl) ?_
      have eS : (orem fc F oc O cur cnt k) = (fc, F, oc, O, cur, cnt, nI (wkc fc F oc O cur k)) := by unfold orem; rw [if_neg h1, if_neg h2]
      rw [wkc_0 (oc := oc) (O := O) (cur := cur) h1] at hP hD
      have hP : va_P D classes (wS h hf a b cA (orem fc F oc O cur cnt k) (0 + nI (fct fc F k)) (0 + nI (if cur < oc then fct oc O k else 0))) H := by rw [eS]; exact hP
      have hD : va_D A (wS h hf a b cA (orem fc F oc O cur cnt k) (0 + nI (fct fc F k)) (0 + nI (if cur < oc then fct oc O k else 0))) := by rw [eS]; exact hD
      exact hret _ _ _ _ _ _ (a, b, (0 + nI (fct fc F k)), (0 + nI (if cur < oc then fct oc O k else 0))) d_M_remove_118 (Or.inl rfl) hP hD hS (by unfold oremA; rw [if_neg h1, if_neg h2]) rfl
end
section
/-! The half that both constructors compute -/
def hvn (h : Int32) : Nat → Nat → Nat
  | 0, n => n
  | f + 1, n => if 2 * n ≤ 1024 ∧ nI (2 * n) ≤ h then hvn h f (2 * n) else n
def hv (h : Int32) : Nat := hvn h 8 8
theorem pw8 : pw 8 := ⟨3, by omega, by omega, rfl⟩
theorem hvn_pw (h : Int32) : ∀ (f n : Nat), pw n → pw (hvn h f n) := by
  intro f
  induction f with
  | zero => intro n hn; exact hn
  | succ f ih =>
    intro n hn
    simp only [hvn]
    split
    · rename_i q
      exact ih _ (hn.dbl q.1)
    · exact hn
theorem hv_pw (h : Int32) : pw (hv h) := hvn_pw h 8 8 pw8
theorem half_gt {n : Nat} (hn : n ≤ 1024) (h : Int32) : ((if (1024 : Int32) < h then 1024 else h) < nI (2 * n)) ↔ ¬ (2 * n ≤ 1024 ∧ nI (2 * n) ≤ h) := by
  have e : (1024 : Int32) = nI 1024 := rfl
  have t : (nI 1024).toInt = 1024 := nI_toInt (by decide)
  have t2 : (nI (2 * n)).toInt = (2 * n : Nat) := nI_toInt (by omega)
  rw [e]
  by_cases q : nI 1024 < h
  · rw [if_pos q]
    rw [Int32.lt_iff_toInt_lt, t] at q
    rw [Int32.lt_iff_toInt_lt, Int32.le_iff_toInt_le, t, t2]
    omega
  · rw [if_neg q]
    rw [Int32.lt_iff_toInt_lt, t] at q
    rw [Int32.lt_iff_toInt_lt, Int32.le_iff_toInt_le, t2]
    omega
theorem half_le {n : Nat} (hn : pw n) (h : Int32) : (n < 1024 ∧ nI n ≤ h / 2) ↔ (2 * n ≤ 1024 ∧ nI (2 * n) ≤ h) := by
  have hl := hn.le
  have hg := hn.ge
  have t1 : (nI n).toInt = n := nI_toInt (by omega)
  have t2 : (nI (2 * n)).toInt = (2 * n : Nat) := nI_toInt (by omega)
  have hd : (h / 2).toInt = h.toInt.tdiv 2 := by
    rw [Int32.toInt_div]
    have e2 : (2 : Int32).toInt = 2 := rfl
    rw [e2]
    have h1 := Int32.le_toInt h
    have h2 := Int32.toInt_lt h
    rw [Int.bmod_eq_of_le]
    · by_cases q : 0 ≤ h.toInt
      · rw [Int.tdiv_eq_ediv_of_nonneg q]; omega
      · have e : h.toInt = -(-h.toInt) := by omega
        rw [e, Int.neg_tdiv, Int.tdiv_eq_ediv_of_nonneg (by omega)]; omega
    · by_cases q : 0 ≤ h.toInt
      · rw [Int.tdiv_eq_ediv_of_nonneg q]; omega
      · have e : h.toInt = -(-h.toInt) := by omega
        rw [e, Int.neg_tdiv, Int.tdiv_eq_ediv_of_nonneg (by omega)]; omega
  have h5 : n < 1024 ↔ 2 * n ≤ 1024 := by
    rcases hn.cases with q | q | q | q | q | q | q | q <;> omega
  rw [Int32.le_iff_toInt_le, Int32.le_iff_toInt_le, hd, t1, t2, h5]
  by_cases q : 0 ≤ h.toInt
  · rw [Int.tdiv_eq_ediv_of_nonneg q]; omega
  · have e : h.toInt = -(-h.toInt) := by omega
    rw [e, Int.neg_tdiv, Int.tdiv_eq_ediv_of_nonneg (by omega)]; omega
end
section
abbrev z0 : Nat → Int32 := fun _ => 0
set_option maxHeartbeats 4000000 in
set_option maxRecDepth 100000 in
theorem c_T_init (l : Launch) (D : va_G) (cA : ClassId) (t n : Nat) (hn : n ≤ 1024) : Mv l D [(cA, .int)] y_T_init b_T_init 2 1 20 3 3072 [.ref t, .int (nI n)] [(t, .inr (1, [.null, .null, .null, .int 0, .int 0]))] (fun (_ : Nat × Nat × Nat) => True) (fun u => wT (t, u) cA n 0 0 (z0, z0, z0)) := by
  refine mv_start (own := "StepMap$Table") (by decide +kernel) rfl (Nat.le_of_ble_eq_true rfl) ?_
  intro p e s m args below meth cd ls A Q hx hb hml hin hown ht hk hP hD hA hl hret
  have hS : va_S A s.heap s.heap [] := va_S.rf
  have hl : lv_has ls 2 [(0, .ref t), (1, .int (nI n))] := hl
  refine lv_aload_n hx hb d_T_init_0 rfl (lv_at hl 0 rfl) ?_
  refine W.objInit hx hb hown (ht _ mw_1_21) (ht _ mw_1_11) (ht _ mw_1_12) rfl (by rw [hml]; exact hl.1) rfl d_T_init_1 (Nat.le_of_ble_eq_true rfl) (Nat.le_of_ble_eq_true rfl) ?_
  refine W.eq (g2 := F0 m 4 ls []) rfl ?_
  refine lv_aload_n hx hb d_T_init_4 rfl (lv_at hl 0 rfl) ?_
  refine lv_iload_n hx hb d_T_init_5 rfl (lv_at hl 1 rfl) ?_
  refine va_newa (D := D) (cl := classes) (atype := .int) (ty := .int) (n := (nI n)) (N' := n) (a0 := (n, .inl (fun _ => 0))) hx hb (ht _ mw_1_43) rfl hk.1 hP hD hS hA (fun _ => rfl) (nI_pos (by omega)) (nI_clamp (by omega)) (by show n * 4 ≤ 536870912; omega) (Nat.le_of_ble_eq_true rfl) (by show 0 + n ≤ 3072; omega) d_T_init_6 (fun q1 cB H hK hP hD hS => ?_)
  have eA : cA = cB := Option.some.inj ((hk.1.2 0 _ rfl).2.symm.trans (hK.2 1 _ rfl).2)
  subst eA
  have hP : va_P D classes [(t, .inr (1, [.null, .null, .null, .int 0, .int 0])), (q1, .inl (cA, n, .inl (fun _ => 0)))] H := hP
  have hD : va_D A [(t, .inr (1, [.null, .null, .null, .int 0, .int 0])), (q1, .inl (cA, n, .inl (fun _ => 0)))] := hD
  refine W.widen (k := 1) (n := 1024) (by omega) (by omega) ?_
  refine va_putF (D := D) (cl := classes) (ci := 1) (v := .ref q1) (ty := .array .int) (C := "StepMap$Table") (T := F_T) (N := 5) hx hb ht i_T tt_T tt_T_ok n_T hown hk.1 hP hD hS 0 rfl rfl 0 (by decide) (ht _ mw_1_22) (fun _ h9 => h9) rfl hin rfl (by decide +kernel) rfl rfl (Nat.le_of_ble_eq_true rfl) d_T_init_8 (fun H locs hP hD hS => ?_)
  have hP : va_P D classes [(t, .inr (1, [.ref q1, .null, .null, .int 0, .int 0])), (q1, .inl (cA, n, .inl (fun _ => 0)))] H := hP
  have hD : va_D A [(t, .inr (1, [.ref q1, .null, .null, .int 0, .int 0])), (q1, .inl (cA, n, .inl (fun _ => 0)))] := hD
  refine lv_aload_n hx hb d_T_init_11 rfl (lv_at hl 0 rfl) ?_
  refine lv_iload_n hx hb d_T_init_12 rfl (lv_at hl 1 rfl) ?_
  refine va_newa (D := D) (cl := classes) (atype := .int) (ty := .int) (n := (nI n)) (N' := n) (a0 := (n, .inl (fun _ => 0))) hx hb (ht _ mw_1_43) rfl hk.1 hP hD hS hA (fun _ => rfl) (nI_pos (by omega)) (nI_clamp (by omega)) (by show n * 4 ≤ 536870912; omega) (Nat.le_of_ble_eq_true rfl) (by show 1024 + n ≤ 3072; omega) d_T_init_13 (fun q2 cB H hK hP hD hS => ?_)
  have eA : cA = cB := Option.some.inj ((hk.1.2 0 _ rfl).2.symm.trans (hK.2 1 _ rfl).2)
  subst eA
  have hP : va_P D classes [(t, .inr (1, [.ref q1, .null, .null, .int 0, .int 0])), (q1, .inl (cA, n, .inl (fun _ => 0))), (q2, .inl (cA, n, .inl (fun _ => 0)))] H := hP
  have hD : va_D A [(t, .inr (1, [.ref q1, .null, .null, .int 0, .int 0])), (q1, .inl (cA, n, .inl (fun _ => 0))), (q2, .inl (cA, n, .inl (fun _ => 0)))] := hD
  refine W.widen (k := 2) (n := 2048) (by omega) (by omega) ?_
  refine va_putF (D := D) (cl := classes) (ci := 1) (v := .ref q2) (ty := .array .int) (C := "StepMap$Table") (T := F_T) (N := 5) hx hb ht i_T tt_T tt_T_ok n_T hown hk.1 hP hD hS 0 rfl rfl 1 (by decide) (ht _ mw_1_24) (fun _ h9 => h9) rfl hin rfl (by decide +kernel) rfl rfl (Nat.le_of_ble_eq_true rfl) d_T_init_15 (fun H locs hP hD hS => ?_)
  have hP : va_P D classes [(t, .inr (1, [.ref q1, .ref q2, .null, .int 0, .int 0])), (q1, .inl (cA, n, .inl (fun _ => 0))), (q2, .inl (cA, n, .inl (fun _ => 0)))] H := hP
  have hD : va_D A [(t, .inr (1, [.ref q1, .ref q2, .null, .int 0, .int 0])), (q1, .inl (cA, n, .inl (fun _ => 0))), (q2, .inl (cA, n, .inl (fun _ => 0)))] := hD
  refine lv_aload_n hx hb d_T_init_18 rfl (lv_at hl 0 rfl) ?_
  refine lv_iload_n hx hb d_T_init_19 rfl (lv_at hl 1 rfl) ?_
  refine va_newa (D := D) (cl := classes) (atype := .int) (ty := .int) (n := (nI n)) (N' := n) (a0 := (n, .inl (fun _ => 0))) hx hb (ht _ mw_1_43) rfl hk.1 hP hD hS hA (fun _ => rfl) (nI_pos (by omega)) (nI_clamp (by omega)) (by show n * 4 ≤ 536870912; omega) (Nat.le_of_ble_eq_true rfl) (by show 2048 + n ≤ 3072; omega) d_T_init_20 (fun q3 cB H hK hP hD hS => ?_)
  have eA : cA = cB := Option.some.inj ((hk.1.2 0 _ rfl).2.symm.trans (hK.2 1 _ rfl).2)
  subst eA
  have hP : va_P D classes [(t, .inr (1, [.ref q1, .ref q2, .null, .int 0, .int 0])), (q1, .inl (cA, n, .inl (fun _ => 0))), (q2, .inl (cA, n, .inl (fun _ => 0))), (q3, .inl (cA, n, .inl (fun _ => 0)))] H := hP
  have hD : va_D A [(t, .inr (1, [.ref q1, .ref q2, .null, .int 0, .int 0])), (q1, .inl (cA, n, .inl (fun _ => 0))), (q2, .inl (cA, n, .inl (fun _ => 0))), (q3, .inl (cA, n, .inl (fun _ => 0)))] := hD
  refine W.widen (k := 3) (n := 3072) (by omega) (by omega) ?_
  refine va_putF (D := D) (cl := classes) (ci := 1) (v := .ref q3) (ty := .array .int) (C := "StepMap$Table") (T := F_T) (N := 5) hx hb ht i_T tt_T tt_T_ok n_T hown hk.1 hP hD hS 0 rfl rfl 2 (by decide) (ht _ mw_1_26) (fun _ h9 => h9) rfl hin rfl (by decide +kernel) rfl rfl (Nat.le_of_ble_eq_true rfl) d_T_init_22 (fun H locs hP hD hS => ?_)
  have hP : va_P D classes [(t, .inr (1, [.ref q1, .ref q2, .ref q3, .int 0, .int 0])), (q1, .inl (cA, n, .inl (fun _ => 0))), (q2, .inl (cA, n, .inl (fun _ => 0))), (q3, .inl (cA, n, .inl (fun _ => 0)))] H := hP
  have hD : va_D A [(t, .inr (1, [.ref q1, .ref q2, .ref q3, .int 0, .int 0])), (q1, .inl (cA, n, .inl (fun _ => 0))), (q2, .inl (cA, n, .inl (fun _ => 0))), (q3, .inl (cA, n, .inl (fun _ => 0)))] := hD
  exact hret _ _ _ _ _ (q1, q2, q3) d_T_init_25 hP hD hS trivial rfl
set_option maxHeartbeats 4000000 in
set_option maxRecDepth 100000 in
theorem c_M_init (l : Launch) (D : va_G) (cA : ClassId) (h : Nat) (x : Int32) : Mv l D [(cA, .int)] y_M_init b_M_init 3 2 41 8 6154 [.ref h, .int x] [(h, .inr (0, [.int 0, .null, .null, .int 0, .int 0, .int 0]))] (fun (_ : Ad × Ad) => True) (fun u => wS h (hv x) u.1 u.2 cA (8, (z0, z0, clr z0 8), 0, (z0, z0, z0), 0, 0, 0) 0 0) := by
  refine mv_start (own := "StepMap") (by decide +kernel) rfl (Nat.le_of_ble_eq_true rfl) ?_
  intro p e s m args below meth cd ls A Q hx hb hml hin hown ht hk hP hD hA hl hret
  have hS : va_S A s.heap s.heap [] := va_S.rf
  have hl : lv_has ls 3 [(0, .ref h), (1, .int x)] := hl
  have fin : ∀ (H : Heap) (locs : List Loc) (ls : Array Slot), va_P D classes [(h, .inr (0, [.int 0, .null, .null, .int 0, .int 0, .int 0]))] H → va_D A [(h, .inr (0, [.int 0, .null, .null, .int 0, .int 0, .int 0]))] → va_S A s.heap H locs → lv_has ls 3 [(2, .int (nI (hv x))), (0, .ref h), (1, .int x)] → W p l e { frames := 2, cells := 8, slots := 6154, locals := 41 } s m args below meth cd H locs 0 0 Q (F0 m 27 ls []) := by
    intro H locs ls hP hD hS hl
    have hpw := hv_pw x
    have hle := hpw.le
    have hge := hpw.ge
    generalize hv x = hf at hP hD hl hret hpw hle hge
    refine lv_aload_n hx hb d_M_init_27 rfl (lv_at hl 1 rfl) ?_
    refine lv_iload_n hx hb d_M_init_28 rfl (lv_at hl 0 rfl) ?_
    refine va_putF (D := D) (cl := classes) (ci := 0) (v := .int (nI hf)) (ty := .int) (C := "StepMap") (T := F_M) (N := 6) hx hb ht i_M tt_M tt_M_ok n_M hown hk.1 hP hD hS 0 rfl rfl 0 (by decide) (ht _ mw_1_48) (fun _ h9 => h9) rfl hin rfl (by decide +kernel) rfl rfl (Nat.le_of_ble_eq_true rfl) d_M_init_29 (fun H locs hP hD hS => ?_)
    have hP : va_P D classes [(h, .inr (0, [.int (nI hf), .null, .null, .int 0, .int 0, .int 0]))] H := hP
    have hD : va_D A [(h, .inr (0, [.int (nI hf), .null, .null, .int 0, .int 0, .int 0]))] := hD
    refine lv_aload_n hx hb d_M_init_32 rfl (lv_at hl 1 rfl) ?_
    refine va_new (D := D) (cl := classes) (ci := 1) (fs := [.null, .null, .null, .int 0, .int 0]) (C := "StepMap$Table") (T := F_T) (N := 5) hx hb ht i_T tt_T tt_T_ok hown (ht _ mw_1_16) (ht _ mw_1_17) (ht _ mw_1_3) hk.1 hP hD hS hA rfl (fun j hj => by rcases (show j = 0 ∨ j = 1 ∨ j = 2 ∨ j = 3 ∨ j = 4 by omega) with rfl | rfl | rfl | rfl | rfl <;> rfl) (Nat.le_of_ble_eq_true rfl) (Nat.le_of_ble_eq_true rfl) d_M_init_33 (fun t1 H hP hD hS => ?_)
    have hP : va_P D classes [(h, .inr (0, [.int (nI hf), .null, .null, .int 0, .int 0, .int 0])), (t1, .inr (1, [.null, .null, .null, .int 0, .int 0]))] H := hP
    have hD : va_D A [(h, .inr (0, [.int (nI hf), .null, .null, .int 0, .int 0, .int 0])), (t1, .inr (1, [.null, .null, .null, .int 0, .int 0]))] := hD
    refine W.widen (k := 1) (n := 5) (by omega) (by omega) ?_
    refine lv_dup hx hb d_M_init_36 rfl ?_
    refine lv_iload_n hx hb d_M_init_37 rfl (lv_at hl 0 rfl) ?_
    refine xI_v (D := D) (k := 1) (wr := [(h, .inr (0, [.int (nI hf), .null, .null, .int 0, .int 0, .int 0]))]) (wb := fun u => ([(h, .inr (0, [.int (nI hf), .null, .null, .int 0, .int 0, .int 0]))] ++ wT (t1, u) cA hf 0 0 (z0, z0, z0))) (rest := [.ref t1, .ref h]) ⟨hx, hb, hml, hown, ht⟩ (c_T_init l D cA t1 hf hle) mw_1_20 mw_1_3 mw_1_18 mw_1_19 rfl (by decide +kernel) rfl ⟨Nat.le_of_ble_eq_true rfl, Nat.le_of_ble_eq_true rfl⟩ hk hP hD hS hA [1] [0] [0, 1, 2, 3, 4] rfl rfl (fun _ => rfl) ⟨rfl, rfl, rfl⟩ (by decide) hl.1 rfl (Nat.le_of_ble_eq_true rfl) d_M_init_38 ⟨Nat.le_of_ble_eq_true rfl, Nat.le_of_ble_eq_true rfl⟩ (fun u1 H locs hp hP hD hS => ?_)
    have hP : va_P D classes [(h, .inr (0, [.int (nI hf), .null, .null, .int 0, .int 0, .int 0])), ((t1, u1).1, .inr (1, [.ref (t1, u1).2.1, .ref (t1, u1).2.2.1, .ref (t1, u1).2.2.2, .int 0, .int 0])), ((t1, u1).2.1, .inl (cA, hf, .inl z0)), ((t1, u1).2.2.1, .inl (cA, hf, .inl z0)), ((t1, u1).2.2.2, .inl (cA, hf, .inl z0))] H := hP
    have hD : va_D A [(h, .inr (0, [.int (nI hf), .null, .null, .int 0, .int 0, .int 0])), ((t1, u1).1, .inr (1, [.ref (t1, u1).2.1, .ref (t1, u1).2.2.1, .ref (t1, u1).2.2.2, .int 0, .int 0])), ((t1, u1).2.1, .inl (cA, hf, .inl z0)), ((t1, u1).2.2.1, .inl (cA, hf, .inl z0)), ((t1, u1).2.2.2, .inl (cA, hf, .inl z0))] := hD
    refine W.widen (k := 4) (n := 3077) (Nat.le_of_ble_eq_true rfl) (Nat.le_of_ble_eq_true rfl) ?_
    refine va_put (D := D) (cl := classes) (ci := 0) (v := .ref (t1, u1).1) (ty := .object "StepMap$Table") (C := "StepMap") (T := F_M) (N := 6) hx hb ht i_M tt_M tt_M_ok n_M hown hk.1 hP hD hS 0 rfl rfl 1 (by decide) (ht _ mw_1_49) (fun _ h9 => h9) rfl (by decide +kernel) rfl rfl (Nat.le_of_ble_eq_true rfl) d_M_init_41 (fun H locs hP hD hS => ?_)
    have hP : va_P D classes [(h, .inr (0, [.int (nI hf), .ref (t1, u1).1, .null, .int 0, .int 0, .int 0])), ((t1, u1).1, .inr (1, [.ref (t1, u1).2.1, .ref (t1, u1).2.2.1, .ref (t1, u1).2.2.2, .int 0, .int 0])), ((t1, u1).2.1, .inl (cA, hf, .inl z0)), ((t1, u1).2.2.1, .inl (cA, hf, .inl z0)), ((t1, u1).2.2.2, .inl (cA, hf, .inl z0))] H := hP
    have hD : va_D A [(h, .inr (0, [.int (nI hf), .ref (t1, u1).1, .null, .int 0, .int 0, .int 0])), ((t1, u1).1, .inr (1, [.ref (t1, u1).2.1, .ref (t1, u1).2.2.1, .ref (t1, u1).2.2.2, .int 0, .int 0])), ((t1, u1).2.1, .inl (cA, hf, .inl z0)), ((t1, u1).2.2.1, .inl (cA, hf, .inl z0)), ((t1, u1).2.2.2, .inl (cA, hf, .inl z0))] := hD
    refine lv_aload_n hx hb d_M_init_44 rfl (lv_at hl 1 rfl) ?_
    refine va_new (D := D) (cl := classes) (ci := 1) (fs := [.null, .null, .null, .int 0, .int 0]) (C := "StepMap$Table") (T := F_T) (N := 5) hx hb ht i_T tt_T tt_T_ok hown (ht _ mw_1_16) (ht _ mw_1_17) (ht _ mw_1_3) hk.1 hP hD hS hA rfl (fun j hj => by rcases (show j = 0 ∨ j = 1 ∨ j = 2 ∨ j = 3 ∨ j = 4 by omega) with rfl | rfl | rfl | rfl | rfl <;> rfl) (Nat.le_of_ble_eq_true rfl) (Nat.le_of_ble_eq_true rfl) d_M_init_45 (fun t2 H hP hD hS => ?_)
    have hP : va_P D classes [(h, .inr (0, [.int (nI hf), .ref (t1, u1).1, .null, .int 0, .int 0, .int 0])), ((t1, u1).1, .inr (1, [.ref (t1, u1).2.1, .ref (t1, u1).2.2.1, .ref (t1, u1).2.2.2, .int 0, .int 0])), ((t1, u1).2.1, .inl (cA, hf, .inl z0)), ((t1, u1).2.2.1, .inl (cA, hf, .inl z0)), ((t1, u1).2.2.2, .inl (cA, hf, .inl z0)), (t2, .inr (1, [.null, .null, .null, .int 0, .int 0]))] H := hP
    have hD : va_D A [(h, .inr (0, [.int (nI hf), .ref (t1, u1).1, .null, .int 0, .int 0, .int 0])), ((t1, u1).1, .inr (1, [.ref (t1, u1).2.1, .ref (t1, u1).2.2.1, .ref (t1, u1).2.2.2, .int 0, .int 0])), ((t1, u1).2.1, .inl (cA, hf, .inl z0)), ((t1, u1).2.2.1, .inl (cA, hf, .inl z0)), ((t1, u1).2.2.2, .inl (cA, hf, .inl z0)), (t2, .inr (1, [.null, .null, .null, .int 0, .int 0]))] := hD
    refine W.widen (k := 5) (n := 3082) (by omega) (by omega) ?_
    refine lv_dup hx hb d_M_init_48 rfl ?_
    refine lv_iload_n hx hb d_M_init_49 rfl (lv_at hl 0 rfl) ?_
    refine xI_v (D := D) (k := 1) (wr := [(h, .inr (0, [.int (nI hf), .ref (t1, u1).1, .null, .int 0, .int 0, .int 0])), ((t1, u1).1, .inr (1, [.ref (t1, u1).2.1, .ref (t1, u1).2.2.1, .ref (t1, u1).2.2.2, .int 0, .int 0])), ((t1, u1).2.1, .inl (cA, hf, .inl z0)), ((t1, u1).2.2.1, .inl (cA, hf, .inl z0)), ((t1, u1).2.2.2, .inl (cA, hf, .inl z0))]) (wb := fun u => ([(h, .inr (0, [.int (nI hf), .ref (t1, u1).1, .null, .int 0, .int 0, .int 0])), ((t1, u1).1, .inr (1, [.ref (t1, u1).2.1, .ref (t1, u1).2.2.1, .ref (t1, u1).2.2.2, .int 0, .int 0])), ((t1, u1).2.1, .inl (cA, hf, .inl z0)), ((t1, u1).2.2.1, .inl (cA, hf, .inl z0)), ((t1, u1).2.2.2, .inl (cA, hf, .inl z0))] ++ wT (t2, u) cA hf 0 0 (z0, z0, z0))) (rest := [.ref t2, .ref h]) ⟨hx, hb, hml, hown, ht⟩ (c_T_init l D cA t2 hf hle) mw_1_20 mw_1_3 mw_1_18 mw_1_19 rfl (by decide +kernel) rfl ⟨Nat.le_of_ble_eq_true rfl, Nat.le_of_ble_eq_true rfl⟩ hk hP hD hS hA [5] [0, 1, 2, 3, 4] [0, 1, 2, 3, 4, 5, 6, 7, 8] rfl rfl (fun _ => rfl) ⟨rfl, rfl, rfl⟩ (by decide) hl.1 rfl (Nat.le_of_ble_eq_true rfl) d_M_init_50 ⟨Nat.le_of_ble_eq_true rfl, Nat.le_of_ble_eq_true rfl⟩ (fun u2 H locs hp hP hD hS => ?_)
    have hP : va_P D classes [(h, .inr (0, [.int (nI hf), .ref (t1, u1).1, .null, .int 0, .int 0, .int 0])), ((t1, u1).1, .inr (1, [.ref (t1, u1).2.1, .ref (t1, u1).2.2.1, .ref (t1, u1).2.2.2, .int 0, .int 0])), ((t1, u1).2.1, .inl (cA, hf, .inl z0)), ((t1, u1).2.2.1, .inl (cA, hf, .inl z0)), ((t1, u1).2.2.2, .inl (cA, hf, .inl z0)), ((t2, u2).1, .inr (1, [.ref (t2, u2).2.1, .ref (t2, u2).2.2.1, .ref (t2, u2).2.2.2, .int 0, .int 0])), ((t2, u2).2.1, .inl (cA, hf, .inl z0)), ((t2, u2).2.2.1, .inl (cA, hf, .inl z0)), ((t2, u2).2.2.2, .inl (cA, hf, .inl z0))] H := hP
    have hD : va_D A [(h, .inr (0, [.int (nI hf), .ref (t1, u1).1, .null, .int 0, .int 0, .int 0])), ((t1, u1).1, .inr (1, [.ref (t1, u1).2.1, .ref (t1, u1).2.2.1, .ref (t1, u1).2.2.2, .int 0, .int 0])), ((t1, u1).2.1, .inl (cA, hf, .inl z0)), ((t1, u1).2.2.1, .inl (cA, hf, .inl z0)), ((t1, u1).2.2.2, .inl (cA, hf, .inl z0)), ((t2, u2).1, .inr (1, [.ref (t2, u2).2.1, .ref (t2, u2).2.2.1, .ref (t2, u2).2.2.2, .int 0, .int 0])), ((t2, u2).2.1, .inl (cA, hf, .inl z0)), ((t2, u2).2.2.1, .inl (cA, hf, .inl z0)), ((t2, u2).2.2.2, .inl (cA, hf, .inl z0))] := hD
    refine W.widen (k := 8) (n := 6154) (Nat.le_of_ble_eq_true rfl) (Nat.le_of_ble_eq_true rfl) ?_
    refine va_put (D := D) (cl := classes) (ci := 0) (v := .ref (t2, u2).1) (ty := .object "StepMap$Table") (C := "StepMap") (T := F_M) (N := 6) hx hb ht i_M tt_M tt_M_ok n_M hown hk.1 hP hD hS 0 rfl rfl 2 (by decide) (ht _ mw_1_50) (fun _ h9 => h9) rfl (by decide +kernel) rfl rfl (Nat.le_of_ble_eq_true rfl) d_M_init_53 (fun H locs hP hD hS => ?_)
    have hP : va_P D classes [(h, .inr (0, [.int (nI hf), .ref (t1, u1).1, .ref (t2, u2).1, .int 0, .int 0, .int 0])), ((t1, u1).1, .inr (1, [.ref (t1, u1).2.1, .ref (t1, u1).2.2.1, .ref (t1, u1).2.2.2, .int 0, .int 0])), ((t1, u1).2.1, .inl (cA, hf, .inl z0)), ((t1, u1).2.2.1, .inl (cA, hf, .inl z0)), ((t1, u1).2.2.2, .inl (cA, hf, .inl z0)), ((t2, u2).1, .inr (1, [.ref (t2, u2).2.1, .ref (t2, u2).2.2.1, .ref (t2, u2).2.2.2, .int 0, .int 0])), ((t2, u2).2.1, .inl (cA, hf, .inl z0)), ((t2, u2).2.2.1, .inl (cA, hf, .inl z0)), ((t2, u2).2.2.2, .inl (cA, hf, .inl z0))] H := hP
    have hD : va_D A [(h, .inr (0, [.int (nI hf), .ref (t1, u1).1, .ref (t2, u2).1, .int 0, .int 0, .int 0])), ((t1, u1).1, .inr (1, [.ref (t1, u1).2.1, .ref (t1, u1).2.2.1, .ref (t1, u1).2.2.2, .int 0, .int 0])), ((t1, u1).2.1, .inl (cA, hf, .inl z0)), ((t1, u1).2.2.1, .inl (cA, hf, .inl z0)), ((t1, u1).2.2.2, .inl (cA, hf, .inl z0)), ((t2, u2).1, .inr (1, [.ref (t2, u2).2.1, .ref (t2, u2).2.2.1, .ref (t2, u2).2.2.2, .int 0, .int 0])), ((t2, u2).2.1, .inl (cA, hf, .inl z0)), ((t2, u2).2.2.1, .inl (cA, hf, .inl z0)), ((t2, u2).2.2.2, .inl (cA, hf, .inl z0))] := hD
    have hP : va_P D classes (wM h hf (t1, u1).1 (t2, u2).1 (t1, u1) (t2, u2) cA 0 0 0 0 0 (z0, z0, z0) 0 0 (z0, z0, z0)) H := hP
    have hD : va_D A (wM h hf (t1, u1).1 (t2, u2).1 (t1, u1) (t2, u2) cA 0 0 0 0 0 (z0, z0, z0) 0 0 (z0, z0, z0)) := hD
    refine lv_aload_n hx hb d_M_init_56 rfl (lv_at hl 1 rfl) ?_
    refine va_get (D := D) (cl := classes) (ci := 0) (v := .ref (t1, u1).1) (C := "StepMap") (T := F_M) (N := 6) hx hb ht i_M hown hk.1 hP 0 rfl rfl 1 (by decide) (ht _ mw_1_49) (fun _ h9 => h9) rfl d_M_init_57 ?_
    refine lv_bipush (v := 8) hx hb d_M_init_60 (by decide) ?_
    refine x_top (z := nI 8) rfl ?_
    refine xV_v (D := D) (k := 1) (ci := 1) (q := ("StepMap$Table", F_T, 5)) (wr := ((h, .inr (0, [.int (nI hf), .ref (t1, u1).1, .ref (t2, u2).1, .int 0, .int 0, .int 0])) :: (wT (t2, u2) cA hf 0 0 (z0, z0, z0)))) (wb := fun u => (wM h hf (t1, u1).1 (t2, u2).1 (t1, u1) (t2, u2) cA 0 0 0 (nI 8) 0 (z0, z0, (clr z0 8)) 0 0 (z0, z0, z0))) (rest := []) ⟨hx, hb, hml, hown, ht⟩ (c_T_clear l D cA (t1, u1) hf 0 0 (z0, z0, z0) 0 8 hle (by omega)) gv_M_32 (by decide +kernel) rfl ⟨Nat.le_of_ble_eq_true rfl, Nat.le_of_ble_eq_true rfl⟩ hk hP hD hS hA [1, 2, 3, 4] [0, 5, 6, 7, 8] [0, 5, 6, 7, 8, 1, 2, 3, 4] rfl rfl (fun _ => rfl) ⟨rfl, rfl, rfl⟩ (by decide) rfl rfl hl.1 rfl (Nat.le_of_ble_eq_true rfl) d_M_init_62 ⟨Nat.le_of_ble_eq_true rfl, Nat.le_of_ble_eq_true rfl⟩ (fun u H locs hp hP hD hS => ?_)
    have hP : va_P D classes (wM h hf (t1, u1).1 (t2, u2).1 (t1, u1) (t2, u2) cA 0 0 0 (nI 8) 0 (z0, z0, (clr z0 8)) 0 0 (z0, z0, z0)) H := hP
    have hD : va_D A (wM h hf (t1, u1).1 (t2, u2).1 (t1, u1) (t2, u2) cA 0 0 0 (nI 8) 0 (z0, z0, (clr z0 8)) 0 0 (z0, z0, z0)) := hD
    exact hret _ _ _ _ _ ((t1, u1), (t2, u2)) d_M_init_65 hP hD hS trivial rfl
  have loop : ∀ (f n : Nat) (H : Heap) (locs : List Loc) (ls : Array Slot), pw n → n * 2 ^ f = 2048 → va_P D classes [(h, .inr (0, [.int 0, .null, .null, .int 0, .int 0, .int 0]))] H → va_D A [(h, .inr (0, [.int 0, .null, .null, .int 0, .int 0, .int 0]))] → va_S A s.heap H locs → lv_has ls 3 [(2, .int (nI n)), (0, .ref h), (1, .int x)] → hvn x f n = hv x → W p l e { frames := 2, cells := 8, slots := 6154, locals := 41 } s m args below meth cd H locs 0 0 Q (F0 m 7 ls []) := by
    intro f
    induction f with
    | zero => intro n H locs ls hn h2; have := hn.le; omega
    | succ f ih =>
      intro n H locs ls hn h2 hP hD hS hl e1
      have hle := hn.le
      refine lv_iconst (v := 2) hx hb d_M_init_7 (by decide) ?_
      refine lv_iload_n hx hb d_M_init_8 rfl (lv_at hl 0 rfl) ?_
      refine lv_imul hx hb d_M_init_9 ?_
      refine x_top (z := (nI (2 * n))) (mul2 n) ?_
      refine lv_iload_n hx hb d_M_init_10 rfl (lv_at hl 2 rfl) ?_
      refine lv_sipush (v := 1024) hx hb d_M_init_11 (by decide) ?_
      refine va_mmin hx hb (hml.trans hl.1.symm) hown (ht _ mw_1_13) (ht _ mw_1_14) (ht _ mw_1_2) (ht _ mw_1_15) (Nat.le_of_ble_eq_true rfl) (Nat.le_of_ble_eq_true rfl) (Nat.zero_le _) (Nat.zero_le _) d_M_init_14 ?_
      refine lv_icmp_gt (tgt := 27) hx hb d_M_init_17 (by decide) (fun c1 => ?_) (fun c1 => ?_)
      · skip
        have q1 := (half_gt hle x).mp c1
        simp only [hvn, if_neg q1] at e1
        rw [e1] at hl
        exact fin _ _ _ hP hD hS hl
      · skip
        have q1 : 2 * n ≤ 1024 ∧ nI (2 * n) ≤ x := Decidable.byContradiction fun z => c1 ((half_gt hle x).mpr z)
        simp only [hvn, if_pos q1] at e1
        refine lv_iconst (v := 2) hx hb d_M_init_20 (by decide) ?_
        refine lv_iload_n hx hb d_M_init_21 rfl (lv_at hl 0 rfl) ?_
        refine lv_imul hx hb d_M_init_22 ?_
        refine x_top (z := (nI (2 * n))) (mul2 n) ?_
        refine lv_istore_n (lv' := [(2, .int (nI (2 * n))), (0, .ref h), (1, .int x)]) hx hb d_M_init_23 rfl hl (by decide) rfl (fun ls hl => ?_)
        refine lv_goto (tgt := 7) hx hb d_M_init_24 (by decide) ?_
        exact ih (2 * n) _ _ _ (hn.dbl q1.1) (by rw [Nat.pow_succ] at h2; rw [Nat.mul_comm 2 n, Nat.mul_assoc, Nat.mul_comm 2]; exact h2) hP hD hS hl e1
  refine lv_aload_n hx hb d_M_init_0 rfl (lv_at hl 0 rfl) ?_
  refine W.objInit hx hb hown (ht _ mw_1_10) (ht _ mw_1_11) (ht _ mw_1_12) rfl (by rw [hml]; exact hl.1) rfl d_M_init_1 (Nat.le_of_ble_eq_true rfl) (Nat.le_of_ble_eq_true rfl) ?_
  refine W.eq (g2 := F0 m 4 ls []) rfl ?_
  refine lv_bipush (v := 8) hx hb d_M_init_4 (by decide) ?_
  refine x_top (z := (nI 8)) (rfl) ?_
  refine lv_istore_n (lv' := [(2, .int (nI 8)), (0, .ref h), (1, .int x)]) hx hb d_M_init_6 rfl hl (by decide) rfl (fun ls hl => ?_)
  exact loop 8 8 _ _ _ pw8 rfl hP hD hS hl rfl
end
section
/-! The reference's row of slots: its two tables -/
def sh (t : Nat) (f : Nat → Int32) : Nat → Int32 := fun i => if i < 1024 then f (1024 * t + i) else 0
abbrev tb (t : Nat) (SS KK VV : Nat → Int32) : Tb := (sh t KK, sh t VV, sh t SS)
theorem sh_at {t i : Nat} (f : Nat → Int32) (h : i < 1024) : sh t f i = f (1024 * t + i) := if_pos h
theorem sh_upd {t i : Nat} (f : Nat → Int32) (x : Int32) (h : i < 1024) : sh t (upd f (1024 * t + i) x) = upd (sh t f) i x := by
  funext j
  simp only [sh, upd]
  by_cases hj : j < 1024
  · rw [if_pos hj, if_pos hj]
    by_cases e : j = i
    · rw [if_pos e, if_pos (by omega)]
    · rw [if_neg e, if_neg (by omega)]
  · rw [if_neg hj, if_neg (by omega), if_neg hj]
theorem sh_upd_o {t u i : Nat} (f : Nat → Int32) (x : Int32) (h : i < 1024) (hn : ¬ t = u) : sh u (upd f (1024 * t + i) x) = sh u f := by
  funext j
  simp only [sh, upd]
  by_cases hj : j < 1024
  · rw [if_pos hj, if_pos hj, if_neg (by omega)]
  · rw [if_neg hj, if_neg hj]
/-- the first z slots of a table are emptied -/
def ct (t : Nat) (f : Nat → Int32) (z : Nat) : Nat → Int32 := fun j => if 1024 * t ≤ j ∧ j < 1024 * t + z then 0 else f j
theorem ct_0 (t : Nat) (f : Nat → Int32) : ct t f 0 = f := by
  funext j; unfold ct; rw [if_neg (by omega)]
theorem ct_s (t : Nat) (f : Nat → Int32) (z : Nat) : upd (ct t f z) (1024 * t + z) 0 = ct t f (z + 1) := by
  funext j
  simp only [upd, ct]
  by_cases h : j = 1024 * t + z
  · rw [if_pos h, if_pos (by omega)]
  · rw [if_neg h]
    by_cases h2 : 1024 * t ≤ j ∧ j < 1024 * t + z
    · rw [if_pos h2, if_pos (by omega)]
    · rw [if_neg h2, if_neg (by omega)]
theorem sh_ct (t : Nat) (f : Nat → Int32) (z : Nat) : sh t (ct t f z) = clr (sh t f) z := by
  funext j
  simp only [sh, ct, clr]
  by_cases hj : j < 1024
  · rw [if_pos hj, if_pos hj]
    by_cases h : j < z
    · rw [if_pos h, if_pos (by omega)]
    · rw [if_neg h, if_neg (by omega)]
  · rw [if_neg hj, if_neg hj]; split <;> rfl
theorem sh_ct_o {t u : Nat} (f : Nat → Int32) {z : Nat} (hz : z ≤ 1024) (hn : ¬ t = u) : sh u (ct t f z) = sh u f := by
  funext j
  simp only [sh, ct]
  by_cases hj : j < 1024
  · rw [if_pos hj, if_pos hj, if_neg (by omega)]
  · rw [if_neg hj, if_neg hj]
theorem sh_0 (t : Nat) : sh t (fun _ => 0) = fun _ => 0 := by funext j; unfold sh; split <;> rfl
/-- what the reference's look answers -/
def lookA (cap : Nat) (T : Tb) (k : Int32) : Int32 := if T.2.2 (fsl cap T k) = 1 then nI (fsl cap T k) else -1 - nI (fsl cap T k)
theorem m1m1 {n : Nat} (h : n ≤ 2048) : -1 - (-1 - nI n) = nI n := by
  have t : (nI n).toInt = n := nI_toInt (by omega)
  have e : (-1 : Int32).toInt = -1 := rfl
  have e2 : (-1 - nI n).toInt = -1 - n := by
    rw [Int32.toInt_sub, t, e, Int.bmod_eq_of_le] <;> omega
  apply eq_of_toInt
  rw [Int32.toInt_sub, e2, e, t, Int.bmod_eq_of_le] <;> omega
theorem m1neg {n : Nat} (h : n ≤ 2048) : -1 - nI n < 0 := by
  have t : (nI n).toInt = n := nI_toInt (by omega)
  rw [Int32.lt_iff_toInt_lt, Int32.toInt_sub, t, Int32.toInt_zero]
  have e : (-1 : Int32).toInt = -1 := rfl
  rw [e, Int.bmod_eq_of_le] <;> omega
theorem ds_nx {cap i j : Nat} (hi : i < cap) (hj : j < cap) (h : ¬ i = j) : ds cap i j = ds cap (nx cap i) j + 1 := by
  have hn : nx cap i < cap := Nat.mod_lt _ (by omega)
  have e1 := ds_eq hi hj
  have e2 := ds_eq hn hj
  have e3 := nx_eq hi
  split at e1 <;> split at e2 <;> split at e3 <;> omega
/-- the reference's cells hold the state -/
def MR (fc : Nat) (F : Tb) (oc : Nat) (O : Tb) (cur c : Nat) (mv cu : Int32) (SS KK VV ZZ : Nat → Int32) : Prop :=
  c < 2 ∧ F = tb c SS KK VV ∧ O = tb (1 - c) SS KK VV ∧ ZZ c = nI fc ∧ ((cur < oc ∧ mv = 1 ∧ cu = nI cur ∧ ZZ (1 - c) = nI oc) ∨ (¬ cur < oc ∧ mv = 0))
abbrev MRS (S : Sm) (c : Nat) (mv cu : Int32) (SS KK VV ZZ : Nat → Int32) : Prop := MR S.1 S.2.1 S.2.2.1 S.2.2.2.1 S.2.2.2.2.1 c mv cu SS KK VV ZZ
/-- what of the reference's cells a call may choose: which table is new, moving, cursor, visits, the arrays -/
abbrev Un : Type := Nat × Int32 × Int32 × Int32 × (Nat → Int32) × (Nat → Int32) × (Nat → Int32) × (Nat → Int32)
abbrev wU (h : Nat) (q : Ad) (cA : ClassId) (th : Int32) (hf : Nat) (S : Sm) (u : Un) : va_W := wN h q cA th (nI hf) (nI u.1) u.2.1 u.2.2.1 (nI S.2.2.2.2.2.1) u.2.2.2.1 S.2.2.2.2.2.2 u.2.2.2.2.1 u.2.2.2.2.2.1 u.2.2.2.2.2.2.1 u.2.2.2.2.2.2.2
abbrev MRu (S : Sm) (u : Un) : Prop := MRS S u.1 u.2.1 u.2.2.1 u.2.2.2.2.1 u.2.2.2.2.2.1 u.2.2.2.2.2.2.1 u.2.2.2.2.2.2.2
end
section
set_option maxHeartbeats 4000000 in
set_option maxRecDepth 100000 in
theorem c_N_at (l : Launch) (D : va_G) (cA : ClassId) (h : Nat) (q : Ad) (th hf c mv cq cnt vi wk : Int32) (SS KK VV ZZ : Nat → Int32) (t i : Nat)  : Mi l D [(cA, .int)] y_N_at b_N_at 3 (some .int) 0 0 [.ref h, .int (nI t), .int (nI i)] (wN h q cA th hf c mv cq cnt vi wk SS KK VV ZZ) (fun r (_ : Unit) => r = nI (1024 * t + i)) (fun _ => (wN h q cA th hf c mv cq cnt vi wk SS KK VV ZZ)) := by
  refine mi_start (own := "StepMapModel") (by decide +kernel) rfl (Nat.le_of_ble_eq_true rfl) ?_
  intro p e s m args below meth cd ls A Q hx hb hml hown ht hk hP hD hA hl hret
  have hS : va_S A s.heap s.heap [] := va_S.rf
  have hl : lv_has ls 3 [(0, .ref h), (1, .int (nI t)), (2, .int (nI i))] := hl
  refine lv_sipush (v := 1024) hx hb d_N_at_0 (by decide) ?_
  refine lv_iload_n hx hb d_N_at_3 rfl (lv_at hl 1 rfl) ?_
  refine lv_imul hx hb d_N_at_4 ?_
  refine x_top (z := (nI (1024 * t))) (mul1024 t) ?_
  refine lv_iload_n hx hb d_N_at_5 rfl (lv_at hl 2 rfl) ?_
  refine lv_iadd hx hb d_N_at_6 ?_
  refine x_top (z := (nI (1024 * t + i))) (nI_add _ _) ?_
  exact hret _ _ _ _ _ _ () d_N_at_7 hP hD hS (rfl) rfl
set_option maxHeartbeats 4000000 in
set_option maxRecDepth 100000 in
theorem c_N_home (l : Launch) (D : va_G) (cA : ClassId) (h : Nat) (q : Ad) (th hf c mv cq cnt vi wk : Int32) (SS KK VV ZZ : Nat → Int32) (k : Int32) (t cap : Nat) (hc : pw cap) (ht2 : t < 2) (hz : ZZ t = nI cap) : Mi l D [(cA, .int)] y_N_home b_N_home 5 (some .int) 0 0 [.ref h, .int k, .int (nI t)] (wN h q cA th hf c mv cq cnt vi wk SS KK VV ZZ) (fun r (_ : Unit) => r = nI (hm cap k)) (fun _ => (wN h q cA th hf c mv cq cnt vi wk SS KK VV ZZ)) := by
  refine mi_start (own := "StepMapModel") (by decide +kernel) rfl (Nat.le_of_ble_eq_true rfl) ?_
  intro p e s m args below meth cd ls A Q hx hb hml hown ht hk hP hD hA hl hret
  have hS : va_S A s.heap s.heap [] := va_S.rf
  have hl : lv_has ls 5 [(0, .ref h), (1, .int k), (2, .int (nI t))] := hl
  have hle := hc.le
  have hge := hc.ge
  refine lv_iload_n hx hb d_N_home_0 rfl (lv_at hl 1 rfl) ?_
  refine lv_ldc (v := (-1640531535)) hx hb hown (ht _ mw_1_231) d_N_home_1 ?_
  refine lv_imul hx hb d_N_home_3 ?_
  refine lv_istore_n (lv' := [(3, .int (k * (-1640531535))), (0, .ref h), (1, .int k), (2, .int (nI t))]) hx hb d_N_home_4 rfl hl (by decide) rfl (fun ls hl => ?_)
  refine lv_iload_n hx hb d_N_home_5 rfl (lv_at hl 0 rfl) ?_
  refine lv_iload_n hx hb d_N_home_6 rfl (lv_at hl 0 rfl) ?_
  refine lv_bipush (v := 15) hx hb d_N_home_7 (by decide) ?_
  refine lv_iushr (v := ((k * (-1640531535)).toUInt32 >>> ((15 : Int32).toUInt32 &&& Int32.toUInt32 31)).toInt32) hx hb d_N_home_9 rfl ?_
  refine lv_ixor hx hb d_N_home_10 ?_
  refine x_top (z := (mixI k)) (rfl) ?_
  refine lv_istore_n (lv' := [(3, .int (mixI k)), (0, .ref h), (1, .int k), (2, .int (nI t))]) hx hb d_N_home_11 rfl hl (by decide) rfl (fun ls hl => ?_)
  refine lv_iload_n hx hb d_N_home_12 rfl (lv_at hl 0 rfl) ?_
  refine lv_aload_n hx hb d_N_home_13 rfl (lv_at hl 1 rfl) ?_
  refine va_get (D := D) (cl := classes) (ci := 2) (v := .ref q.2.2.2) (C := "StepMapModel") (T := F_N) (N := 12) hx hb ht i_N hown hk.1 hP 0 rfl rfl 5 (by decide) (ht _ mw_1_187) (fun _ h9 => h9) rfl d_N_home_14 ?_
  refine lv_iload_n hx hb d_N_home_17 rfl (lv_at hl 3 rfl) ?_
  refine x_ald hx hb hk hP 4 0 rfl rfl (i := t) (by omega) (by omega) d_N_home_18 ?_
  refine x_top (z := (nI cap)) (hz) ?_
  refine lv_irem hx hb d_N_home_19 (nI_ne0 (by omega) (by omega)) ?_
  refine lv_istore (lv' := [(4, .int ((mixI k) - (mixI k) / (nI cap) * (nI cap))), (3, .int (mixI k)), (0, .ref h), (1, .int k), (2, .int (nI t))]) hx hb d_N_home_20 hl (by decide) rfl (fun ls hl => ?_)
  refine lv_iload hx hb d_N_home_22 (lv_at hl 0 rfl) ?_
  refine lv_if_ge (tgt := 39) hx hb d_N_home_24 (by decide) (fun c1 => ?_) (fun c1 => ?_)
  · skip
    refine lv_iload hx hb d_N_home_39 (lv_at hl 0 rfl) ?_
    exact hret _ _ _ _ _ _ () d_N_home_41 hP hD hS ((rem_cap hc (mixI k)).2 (fun z => absurd c1 (by rw [Int32.le_iff_toInt_le]; rw [Int32.lt_iff_toInt_lt] at z; omega))) rfl
  · skip
    refine lv_iload hx hb d_N_home_27 (lv_at hl 0 rfl) ?_
    refine lv_aload_n hx hb d_N_home_29 rfl (lv_at hl 2 rfl) ?_
    refine va_get (D := D) (cl := classes) (ci := 2) (v := .ref q.2.2.2) (C := "StepMapModel") (T := F_N) (N := 12) hx hb ht i_N hown hk.1 hP 0 rfl rfl 5 (by decide) (ht _ mw_1_187) (fun _ h9 => h9) rfl d_N_home_30 ?_
    refine lv_iload_n hx hb d_N_home_33 rfl (lv_at hl 4 rfl) ?_
    refine x_ald hx hb hk hP 4 0 rfl rfl (i := t) (by omega) (by omega) d_N_home_34 ?_
    refine x_top (z := (nI cap)) (hz) ?_
    refine lv_iadd hx hb d_N_home_35 ?_
    refine lv_goto (tgt := 41) hx hb d_N_home_36 (by decide) ?_
    exact hret _ _ _ _ _ _ () d_N_home_41 hP hD hS ((rem_cap hc (mixI k)).1 (by rw [Int32.le_iff_toInt_le] at c1; rw [Int32.lt_iff_toInt_lt]; omega)) rfl
set_option maxHeartbeats 4000000 in
set_option maxRecDepth 100000 in
theorem c_N_behind (l : Launch) (D : va_G) (cA : ClassId) (h : Nat) (q : Ad) (th hf c mv cq cnt vi wk : Int32) (SS KK VV ZZ : Nat → Int32) (i t cap : Nat) (hc : pw cap) (ht2 : t < 2) (hz : ZZ t = nI cap) (hi : i < cap) : Mi l D [(cA, .int)] y_N_behind b_N_behind 3 (some .int) 0 0 [.ref h, .int (nI i), .int (nI t)] (wN h q cA th hf c mv cq cnt vi wk SS KK VV ZZ) (fun r (_ : Unit) => r = nI (nx cap i)) (fun _ => (wN h q cA th hf c mv cq cnt vi wk SS KK VV ZZ)) := by
  refine mi_start (own := "StepMapModel") (by decide +kernel) rfl (Nat.le_of_ble_eq_true rfl) ?_
  intro p e s m args below meth cd ls A Q hx hb hml hown ht hk hP hD hA hl hret
  have hS : va_S A s.heap s.heap [] := va_S.rf
  have hl : lv_has ls 3 [(0, .ref h), (1, .int (nI i)), (2, .int (nI t))] := hl
  have hle := hc.le
  have hge := hc.ge
  refine lv_iload_n hx hb d_N_behind_0 rfl (lv_at hl 1 rfl) ?_
  refine lv_iconst (v := 1) hx hb d_N_behind_1 (by decide) ?_
  refine lv_iadd hx hb d_N_behind_2 ?_
  refine lv_aload_n hx hb d_N_behind_3 rfl (lv_at hl 0 rfl) ?_
  refine va_get (D := D) (cl := classes) (ci := 2) (v := .ref q.2.2.2) (C := "StepMapModel") (T := F_N) (N := 12) hx hb ht i_N hown hk.1 hP 0 rfl rfl 5 (by decide) (ht _ mw_1_187) (fun _ h9 => h9) rfl d_N_behind_4 ?_
  refine lv_iload_n hx hb d_N_behind_7 rfl (lv_at hl 2 rfl) ?_
  refine x_ald hx hb hk hP 4 0 rfl rfl (i := t) (by omega) (by omega) d_N_behind_8 ?_
  refine x_top (z := (nI cap)) (hz) ?_
  refine lv_irem hx hb d_N_behind_9 (nI_ne0 (by omega) (by omega)) ?_
  refine x_top (z := (nI (nx cap i))) (rem_next hc hi) ?_
  exact hret _ _ _ _ _ _ () d_N_behind_10 hP hD hS (rfl) rfl
set_option maxHeartbeats 4000000 in
set_option maxRecDepth 100000 in
theorem c_N_lay (l : Launch) (D : va_G) (cA : ClassId) (h : Nat) (q : Ad) (th hf c mv cq cnt vi wk : Int32) (SS KK VV ZZ : Nat → Int32) (t i : Nat) (k v : Int32) (ht2 : t < 2) (hi : i < 1024) : Mv l D [(cA, .int)] y_N_lay b_N_lay 5 1 22 0 0 [.ref h, .int (nI t), .int (nI i), .int k, .int v] (wN h q cA th hf c mv cq cnt vi wk SS KK VV ZZ) (fun (_ : Unit) => True) (fun _ => (wN h q cA th hf c mv cq cnt vi wk (upd SS (1024 * t + i) 1) (upd KK (1024 * t + i) k) (upd VV (1024 * t + i) v) ZZ)) := by
  refine mv_start (own := "StepMapModel") (by decide +kernel) rfl (Nat.le_of_ble_eq_true rfl) ?_
  intro p e s m args below meth cd ls A Q hx hb hml hin hown ht hk hP hD hA hl hret
  have hS : va_S A s.heap s.heap [] := va_S.rf
  have hl : lv_has ls 5 [(0, .ref h), (1, .int (nI t)), (2, .int (nI i)), (3, .int k), (4, .int v)] := hl
  refine lv_aload_n hx hb d_N_lay_0 rfl (lv_at hl 0 rfl) ?_
  refine va_get (D := D) (cl := classes) (ci := 2) (v := .ref q.1) (C := "StepMapModel") (T := F_N) (N := 12) hx hb ht i_N hown hk.1 hP 0 rfl rfl 2 (by decide) (ht _ mw_1_184) (fun _ h9 => h9) rfl d_N_lay_1 ?_
  refine lv_aload_n hx hb d_N_lay_4 rfl (lv_at hl 0 rfl) ?_
  refine lv_iload_n hx hb d_N_lay_5 rfl (lv_at hl 1 rfl) ?_
  refine lv_iload_n hx hb d_N_lay_6 rfl (lv_at hl 2 rfl) ?_
  refine xV_i (D := D) (k := 2) (ci := 2) (q := ("StepMapModel", F_N, 12)) (wr := []) (wb := fun u => (wN h q cA th hf c mv cq cnt vi wk SS KK VV ZZ)) (rest := [.ref q.1]) ⟨hx, hb, hml, hown, ht⟩ (c_N_at l D cA h q th hf c mv cq cnt vi wk SS KK VV ZZ t i) gv_N_37 (by decide +kernel) rfl ⟨Nat.le_of_ble_eq_true rfl, Nat.le_of_ble_eq_true rfl⟩ hk hP hD hS hA [0, 1, 2, 3, 4] [] [0, 1, 2, 3, 4] rfl rfl (fun _ => rfl) ⟨rfl, rfl, rfl⟩ (by decide) rfl rfl hl.1 rfl (Nat.le_of_ble_eq_true rfl) d_N_lay_7 ⟨Nat.zero_le _, Nat.zero_le _⟩ (fun r u H locs hp hP hD hS => ?_)
  have hp : r = (nI (1024 * t + i)) := hp
  subst hp
  have hP : va_P D classes (wN h q cA th hf c mv cq cnt vi wk SS KK VV ZZ) H := hP
  have hD : va_D A (wN h q cA th hf c mv cq cnt vi wk SS KK VV ZZ) := hD
  refine lv_iconst (v := 1) hx hb d_N_lay_10 (by decide) ?_
  refine x_ast hx hb hk hP hD hS 1 0 rfl rfl (i := (1024 * t + i)) (x := 1) (by omega) (by omega) d_N_lay_11 (fun H locs hP hD hS => ?_)
  have hP : va_P D classes (wN h q cA th hf c mv cq cnt vi wk (upd SS (1024 * t + i) 1) KK VV ZZ) H := hP
  have hD : va_D A (wN h q cA th hf c mv cq cnt vi wk (upd SS (1024 * t + i) 1) KK VV ZZ) := hD
  refine lv_aload_n hx hb d_N_lay_12 rfl (lv_at hl 0 rfl) ?_
  refine va_get (D := D) (cl := classes) (ci := 2) (v := .ref q.2.1) (C := "StepMapModel") (T := F_N) (N := 12) hx hb ht i_N hown hk.1 hP 0 rfl rfl 3 (by decide) (ht _ mw_1_185) (fun _ h9 => h9) rfl d_N_lay_13 ?_
  refine lv_aload_n hx hb d_N_lay_16 rfl (lv_at hl 0 rfl) ?_
  refine lv_iload_n hx hb d_N_lay_17 rfl (lv_at hl 1 rfl) ?_
  refine lv_iload_n hx hb d_N_lay_18 rfl (lv_at hl 2 rfl) ?_
  refine xV_i (D := D) (k := 2) (ci := 2) (q := ("StepMapModel", F_N, 12)) (wr := []) (wb := fun u => (wN h q cA th hf c mv cq cnt vi wk (upd SS (1024 * t + i) 1) KK VV ZZ)) (rest := [.ref q.2.1]) ⟨hx, hb, hml, hown, ht⟩ (c_N_at l D cA h q th hf c mv cq cnt vi wk (upd SS (1024 * t + i) 1) KK VV ZZ t i) gv_N_37 (by decide +kernel) rfl ⟨Nat.le_of_ble_eq_true rfl, Nat.le_of_ble_eq_true rfl⟩ hk hP hD hS hA [0, 1, 2, 3, 4] [] [0, 1, 2, 3, 4] rfl rfl (fun _ => rfl) ⟨rfl, rfl, rfl⟩ (by decide) rfl rfl hl.1 rfl (Nat.le_of_ble_eq_true rfl) d_N_lay_19 ⟨Nat.zero_le _, Nat.zero_le _⟩ (fun r u H locs hp hP hD hS => ?_)
  have hp : r = (nI (1024 * t + i)) := hp
  subst hp
  have hP : va_P D classes (wN h q cA th hf c mv cq cnt vi wk (upd SS (1024 * t + i) 1) KK VV ZZ) H := hP
  have hD : va_D A (wN h q cA th hf c mv cq cnt vi wk (upd SS (1024 * t + i) 1) KK VV ZZ) := hD
  refine lv_iload_n hx hb d_N_lay_22 rfl (lv_at hl 3 rfl) ?_
  refine x_ast hx hb hk hP hD hS 2 0 rfl rfl (i := (1024 * t + i)) (x := k) (by omega) (by omega) d_N_lay_23 (fun H locs hP hD hS => ?_)
  have hP : va_P D classes (wN h q cA th hf c mv cq cnt vi wk (upd SS (1024 * t + i) 1) (upd KK (1024 * t + i) k) VV ZZ) H := hP
  have hD : va_D A (wN h q cA th hf c mv cq cnt vi wk (upd SS (1024 * t + i) 1) (upd KK (1024 * t + i) k) VV ZZ) := hD
  refine lv_aload_n hx hb d_N_lay_24 rfl (lv_at hl 0 rfl) ?_
  refine va_get (D := D) (cl := classes) (ci := 2) (v := .ref q.2.2.1) (C := "StepMapModel") (T := F_N) (N := 12) hx hb ht i_N hown hk.1 hP 0 rfl rfl 4 (by decide) (ht _ mw_1_186) (fun _ h9 => h9) rfl d_N_lay_25 ?_
  refine lv_aload_n hx hb d_N_lay_28 rfl (lv_at hl 0 rfl) ?_
  refine lv_iload_n hx hb d_N_lay_29 rfl (lv_at hl 1 rfl) ?_
  refine lv_iload_n hx hb d_N_lay_30 rfl (lv_at hl 2 rfl) ?_
  refine xV_i (D := D) (k := 2) (ci := 2) (q := ("StepMapModel", F_N, 12)) (wr := []) (wb := fun u => (wN h q cA th hf c mv cq cnt vi wk (upd SS (1024 * t + i) 1) (upd KK (1024 * t + i) k) VV ZZ)) (rest := [.ref q.2.2.1]) ⟨hx, hb, hml, hown, ht⟩ (c_N_at l D cA h q th hf c mv cq cnt vi wk (upd SS (1024 * t + i) 1) (upd KK (1024 * t + i) k) VV ZZ t i) gv_N_37 (by decide +kernel) rfl ⟨Nat.le_of_ble_eq_true rfl, Nat.le_of_ble_eq_true rfl⟩ hk hP hD hS hA [0, 1, 2, 3, 4] [] [0, 1, 2, 3, 4] rfl rfl (fun _ => rfl) ⟨rfl, rfl, rfl⟩ (by decide) rfl rfl hl.1 rfl (Nat.le_of_ble_eq_true rfl) d_N_lay_31 ⟨Nat.zero_le _, Nat.zero_le _⟩ (fun r u H locs hp hP hD hS => ?_)
  have hp : r = (nI (1024 * t + i)) := hp
  subst hp
  have hP : va_P D classes (wN h q cA th hf c mv cq cnt vi wk (upd SS (1024 * t + i) 1) (upd KK (1024 * t + i) k) VV ZZ) H := hP
  have hD : va_D A (wN h q cA th hf c mv cq cnt vi wk (upd SS (1024 * t + i) 1) (upd KK (1024 * t + i) k) VV ZZ) := hD
  refine lv_iload hx hb d_N_lay_34 (lv_at hl 4 rfl) ?_
  refine x_ast hx hb hk hP hD hS 3 0 rfl rfl (i := (1024 * t + i)) (x := v) (by omega) (by omega) d_N_lay_36 (fun H locs hP hD hS => ?_)
  have hP : va_P D classes (wN h q cA th hf c mv cq cnt vi wk (upd SS (1024 * t + i) 1) (upd KK (1024 * t + i) k) (upd VV (1024 * t + i) v) ZZ) H := hP
  have hD : va_D A (wN h q cA th hf c mv cq cnt vi wk (upd SS (1024 * t + i) 1) (upd KK (1024 * t + i) k) (upd VV (1024 * t + i) v) ZZ) := hD
  exact hret _ _ _ _ _ () d_N_lay_37 hP hD hS (trivial) rfl
set_option maxHeartbeats 4000000 in
set_option maxRecDepth 100000 in
theorem c_N_look (l : Launch) (D : va_G) (cA : ClassId) (h : Nat) (q : Ad) (th hf c mv cq cnt vi wk : Int32) (SS KK VV ZZ : Nat → Int32) (k : Int32) (t cap : Nat) (hc : pw cap) (ht2 : t < 2) (hz : ZZ t = nI cap) (hf0 : fok cap (tb t SS KK VV) k) : Mi l D [(cA, .int)] y_N_look b_N_look 4 (some .int) 1 24 [.ref h, .int k, .int (nI t)] (wN h q cA th hf c mv cq cnt vi wk SS KK VV ZZ) (fun r (_ : Unit) => r = lookA cap (tb t SS KK VV) k) (fun _ => (wN h q cA th hf c mv cq cnt (vi + nI (fct cap (tb t SS KK VV) k)) wk SS KK VV ZZ)) := by
  refine mi_start (own := "StepMapModel") (by decide +kernel) rfl (Nat.le_of_ble_eq_true rfl) ?_
  intro p e s m args below meth cd ls A Q hx hb hml hown ht hk hP hD hA hl hret
  have hS : va_S A s.heap s.heap [] := va_S.rf
  have hl : lv_has ls 4 [(0, .ref h), (1, .int k), (2, .int (nI t))] := hl
  have hle := hc.le
  have loop : ∀ (f i : Nat) (v1 : Int32) (H : Heap) (locs : List Loc) (ls : Array Slot), i < cap → en cap (tb t SS KK VV) k f i → va_P D classes (wN h q cA th hf c mv cq cnt v1 wk SS KK VV ZZ) H → va_D A (wN h q cA th hf c mv cq cnt v1 wk SS KK VV ZZ) → va_S A s.heap H locs → lv_has ls 4 [(3, .int (nI i)), (0, .ref h), (1, .int k), (2, .int (nI t))] → fds cap (tb t SS KK VV) k f i = fsl cap (tb t SS KK VV) k → v1 + nI (fdn cap (tb t SS KK VV) k f i) = vi + nI (fct cap (tb t SS KK VV) k) → W p l e { frames := 1, cells := 0, slots := 0, locals := 24 } s m args below meth cd H locs 0 0 Q (F0 m 17 ls []) := by
    intro f
    induction f with
    | zero => intro i v1 H locs ls h1 h2; exact h2.elim
    | succ f ih =>
      intro i v1 H locs ls hi he hP hD hS hl e1 e2
      have hi4 : i < 1024 := by omega
      have hs : sh t SS i = SS (1024 * t + i) := sh_at SS hi4
      have hks : sh t KK i = KK (1024 * t + i) := sh_at KK hi4
      have fin : stp (tb t SS KK VV) k i → ∀ (H : Heap), va_P D classes (wN h q cA th hf c mv cq cnt v1 wk SS KK VV ZZ) H → fsl cap (tb t SS KK VV) k = i ∧ va_P D classes (wN h q cA th hf c mv cq cnt (vi + nI (fct cap (tb t SS KK VV) k)) wk SS KK VV ZZ) H ∧ va_D A (wN h q cA th hf c mv cq cnt (vi + nI (fct cap (tb t SS KK VV) k)) wk SS KK VV ZZ) := by
        intro hst H hP
        simp only [fds, fdn, if_pos hst] at e1 e2
        have e2 : v1 = vi + nI (fct cap (tb t SS KK VV) k) := by rw [← e2, nI_0, ia0]
        rw [e2] at hP hD
        exact ⟨e1.symm, hP, hD⟩
      have nxt : ¬ stp (tb t SS KK VV) k i → ∀ (H : Heap) (locs : List Loc), va_P D classes (wN h q cA th hf c mv cq cnt v1 wk SS KK VV ZZ) H → va_D A (wN h q cA th hf c mv cq cnt v1 wk SS KK VV ZZ) → va_S A s.heap H locs → W p l e { frames := 1, cells := 0, slots := 0, locals := 24 } s m args below meth cd H locs 0 0 Q (F0 m 63 ls []) := by
        intro hst H locs hP hD hS
        simp only [fds, fdn, if_neg hst] at e1 e2
        have he : en cap (tb t SS KK VV) k f (nx cap i) := by rcases he with q | q; exact absurd q hst; exact q
        refine lv_aload_n hx hb d_N_look_63 rfl (lv_at hl 1 rfl) ?_
        refine lv_iload_n hx hb d_N_look_64 rfl (lv_at hl 0 rfl) ?_
        refine lv_iload_n hx hb d_N_look_65 rfl (lv_at hl 3 rfl) ?_
        refine xV_i (D := D) (k := 2) (ci := 2) (q := ("StepMapModel", F_N, 12)) (wr := []) (wb := fun u => (wN h q cA th hf c mv cq cnt v1 wk SS KK VV ZZ)) (rest := []) ⟨hx, hb, hml, hown, ht⟩ (c_N_behind l D cA h q th hf c mv cq cnt v1 wk SS KK VV ZZ i t cap hc ht2 hz hi) gv_N_40 (by decide +kernel) rfl ⟨Nat.le_of_ble_eq_true rfl, Nat.le_of_ble_eq_true rfl⟩ hk hP hD hS hA [0, 1, 2, 3, 4] [] [0, 1, 2, 3, 4] rfl rfl (fun _ => rfl) ⟨rfl, rfl, rfl⟩ (by decide) rfl rfl hl.1 rfl (Nat.le_of_ble_eq_true rfl) d_N_look_66 ⟨Nat.zero_le _, Nat.zero_le _⟩ (fun r u H locs hp hP hD hS => ?_)
        have hp : r = (nI (nx cap i)) := hp
        subst hp
        have hP : va_P D classes (wN h q cA th hf c mv cq cnt v1 wk SS KK VV ZZ) H := hP
        have hD : va_D A (wN h q cA th hf c mv cq cnt v1 wk SS KK VV ZZ) := hD
        refine lv_istore_n (lv' := [(3, .int (nI (nx cap i))), (0, .ref h), (1, .int k), (2, .int (nI t))]) hx hb d_N_look_69 rfl hl (by decide) rfl (fun ls hl => ?_)
        refine lv_aload_n hx hb d_N_look_70 rfl (lv_at hl 1 rfl) ?_
        refine lv_dup hx hb d_N_look_71 rfl ?_
        refine va_get (D := D) (cl := classes) (ci := 2) (v := .int v1) (C := "StepMapModel") (T := F_N) (N := 12) hx hb ht i_N hown hk.1 hP 0 rfl rfl 10 (by decide) (ht _ mw_1_192) (fun _ h9 => h9) rfl d_N_look_72 ?_
        refine lv_iconst (v := 1) hx hb d_N_look_75 (by decide) ?_
        refine lv_iadd hx hb d_N_look_76 ?_
        refine va_put (D := D) (cl := classes) (ci := 2) (v := .int (v1 + 1)) (ty := .int) (C := "StepMapModel") (T := F_N) (N := 12) hx hb ht i_N tt_N tt_N_ok n_N hown hk.1 hP hD hS 0 rfl rfl 10 (by decide) (ht _ mw_1_192) (fun _ h9 => h9) rfl (by decide +kernel) rfl rfl (Nat.le_of_ble_eq_true rfl) d_N_look_77 (fun H locs hP hD hS => ?_)
        have hP : va_P D classes (wN h q cA th hf c mv cq cnt (v1 + 1) wk SS KK VV ZZ) H := hP
        have hD : va_D A (wN h q cA th hf c mv cq cnt (v1 + 1) wk SS KK VV ZZ) := hD
        refine lv_goto (tgt := 17) hx hb d_N_look_80 (by decide) ?_
        exact ih (nx cap i) (v1 + 1) _ _ _ (nx_lt hc i) he hP hD hS hl e1 (by rw [← e2, nI_succ]; ac_rfl)
      refine lv_aload_n hx hb d_N_look_17 rfl (lv_at hl 1 rfl) ?_
      refine va_get (D := D) (cl := classes) (ci := 2) (v := .ref q.1) (C := "StepMapModel") (T := F_N) (N := 12) hx hb ht i_N hown hk.1 hP 0 rfl rfl 2 (by decide) (ht _ mw_1_184) (fun _ h9 => h9) rfl d_N_look_18 ?_
      refine lv_aload_n hx hb d_N_look_21 rfl (lv_at hl 1 rfl) ?_
      refine lv_iload_n hx hb d_N_look_22 rfl (lv_at hl 3 rfl) ?_
      refine lv_iload_n hx hb d_N_look_23 rfl (lv_at hl 0 rfl) ?_
      refine xV_i (D := D) (k := 2) (ci := 2) (q := ("StepMapModel", F_N, 12)) (wr := []) (wb := fun u => (wN h q cA th hf c mv cq cnt v1 wk SS KK VV ZZ)) (rest := [.ref q.1]) ⟨hx, hb, hml, hown, ht⟩ (c_N_at l D cA h q th hf c mv cq cnt v1 wk SS KK VV ZZ t i) gv_N_37 (by decide +kernel) rfl ⟨Nat.le_of_ble_eq_true rfl, Nat.le_of_ble_eq_true rfl⟩ hk hP hD hS hA [0, 1, 2, 3, 4] [] [0, 1, 2, 3, 4] rfl rfl (fun _ => rfl) ⟨rfl, rfl, rfl⟩ (by decide) rfl rfl hl.1 rfl (Nat.le_of_ble_eq_true rfl) d_N_look_24 ⟨Nat.zero_le _, Nat.zero_le _⟩ (fun r u H locs hp hP hD hS => ?_)
      have hp : r = (nI (1024 * t + i)) := hp
      subst hp
      have hP : va_P D classes (wN h q cA th hf c mv cq cnt v1 wk SS KK VV ZZ) H := hP
      have hD : va_D A (wN h q cA th hf c mv cq cnt v1 wk SS KK VV ZZ) := hD
      refine x_ald hx hb hk hP 1 0 rfl rfl (i := (1024 * t + i)) (by omega) (by omega) d_N_look_27 ?_
      refine lv_if_eq (tgt := 83) hx hb d_N_look_28 (by decide) (fun c1 => ?_) (fun c1 => ?_)
      · skip
        have c1 : sh t SS i = 0 := hs.trans c1
        obtain ⟨z1, z2, z3⟩ := fin (Or.inl c1) _ hP
        have hP : va_P D classes (wN h q cA th hf c mv cq cnt (vi + nI (fct cap (tb t SS KK VV) k)) wk SS KK VV ZZ) H := z2
        have hD : va_D A (wN h q cA th hf c mv cq cnt (vi + nI (fct cap (tb t SS KK VV) k)) wk SS KK VV ZZ) := z3
        refine lv_iconst (v := (-1)) hx hb d_N_look_83 (by decide) ?_
        refine lv_iload_n hx hb d_N_look_84 rfl (lv_at hl 0 rfl) ?_
        refine lv_isub hx hb d_N_look_85 ?_
        exact hret _ _ _ _ _ _ () d_N_look_86 hP hD hS (by unfold lookA; rw [z1, if_neg (by show ¬ sh t SS i = 1; rw [c1]; decide)]) rfl
      · skip
        have c1 : ¬ sh t SS i = 0 := fun z => c1 (hs.symm.trans z)
        refine lv_aload_n hx hb d_N_look_31 rfl (lv_at hl 1 rfl) ?_
        refine va_get (D := D) (cl := classes) (ci := 2) (v := .ref q.1) (C := "StepMapModel") (T := F_N) (N := 12) hx hb ht i_N hown hk.1 hP 0 rfl rfl 2 (by decide) (ht _ mw_1_184) (fun _ h9 => h9) rfl d_N_look_32 ?_
        refine lv_aload_n hx hb d_N_look_35 rfl (lv_at hl 1 rfl) ?_
        refine lv_iload_n hx hb d_N_look_36 rfl (lv_at hl 3 rfl) ?_
        refine lv_iload_n hx hb d_N_look_37 rfl (lv_at hl 0 rfl) ?_
        refine xV_i (D := D) (k := 2) (ci := 2) (q := ("StepMapModel", F_N, 12)) (wr := []) (wb := fun u => (wN h q cA th hf c mv cq cnt v1 wk SS KK VV ZZ)) (rest := [.ref q.1]) ⟨hx, hb, hml, hown, ht⟩ (c_N_at l D cA h q th hf c mv cq cnt v1 wk SS KK VV ZZ t i) gv_N_37 (by decide +kernel) rfl ⟨Nat.le_of_ble_eq_true rfl, Nat.le_of_ble_eq_true rfl⟩ hk hP hD hS hA [0, 1, 2, 3, 4] [] [0, 1, 2, 3, 4] rfl rfl (fun _ => rfl) ⟨rfl, rfl, rfl⟩ (by decide) rfl rfl hl.1 rfl (Nat.le_of_ble_eq_true rfl) d_N_look_38 ⟨Nat.zero_le _, Nat.zero_le _⟩ (fun r u H locs hp hP hD hS => ?_)
        have hp : r = (nI (1024 * t + i)) := hp
        subst hp
        have hP : va_P D classes (wN h q cA th hf c mv cq cnt v1 wk SS KK VV ZZ) H := hP
        have hD : va_D A (wN h q cA th hf c mv cq cnt v1 wk SS KK VV ZZ) := hD
        refine x_ald hx hb hk hP 1 0 rfl rfl (i := (1024 * t + i)) (by omega) (by omega) d_N_look_41 ?_
        refine lv_iconst (v := 1) hx hb d_N_look_42 (by decide) ?_
        refine lv_icmp_ne (tgt := 63) hx hb d_N_look_43 (by decide) (fun c2 => ?_) (fun c2 => ?_)
        · skip
          exact nxt (fun z => by rcases z with z | z; exact c1 z; exact c2 (hs.symm.trans z.1)) _ _ hP hD hS
        · skip
          have c2 : sh t SS i = 1 := hs.trans c2
          refine lv_aload_n hx hb d_N_look_46 rfl (lv_at hl 1 rfl) ?_
          refine va_get (D := D) (cl := classes) (ci := 2) (v := .ref q.2.1) (C := "StepMapModel") (T := F_N) (N := 12) hx hb ht i_N hown hk.1 hP 0 rfl rfl 3 (by decide) (ht _ mw_1_185) (fun _ h9 => h9) rfl d_N_look_47 ?_
          refine lv_aload_n hx hb d_N_look_50 rfl (lv_at hl 1 rfl) ?_
          refine lv_iload_n hx hb d_N_look_51 rfl (lv_at hl 3 rfl) ?_
          refine lv_iload_n hx hb d_N_look_52 rfl (lv_at hl 0 rfl) ?_
          refine xV_i (D := D) (k := 2) (ci := 2) (q := ("StepMapModel", F_N, 12)) (wr := []) (wb := fun u => (wN h q cA th hf c mv cq cnt v1 wk SS KK VV ZZ)) (rest := [.ref q.2.1]) ⟨hx, hb, hml, hown, ht⟩ (c_N_at l D cA h q th hf c mv cq cnt v1 wk SS KK VV ZZ t i) gv_N_37 (by decide +kernel) rfl ⟨Nat.le_of_ble_eq_true rfl, Nat.le_of_ble_eq_true rfl⟩ hk hP hD hS hA [0, 1, 2, 3, 4] [] [0, 1, 2, 3, 4] rfl rfl (fun _ => rfl) ⟨rfl, rfl, rfl⟩ (by decide) rfl rfl hl.1 rfl (Nat.le_of_ble_eq_true rfl) d_N_look_53 ⟨Nat.zero_le _, Nat.zero_le _⟩ (fun r u H locs hp hP hD hS => ?_)
          have hp : r = (nI (1024 * t + i)) := hp
          subst hp
          have hP : va_P D classes (wN h q cA th hf c mv cq cnt v1 wk SS KK VV ZZ) H := hP
          have hD : va_D A (wN h q cA th hf c mv cq cnt v1 wk SS KK VV ZZ) := hD
          refine x_ald hx hb hk hP 2 0 rfl rfl (i := (1024 * t + i)) (by omega) (by omega) d_N_look_56 ?_
          refine lv_iload_n hx hb d_N_look_57 rfl (lv_at hl 2 rfl) ?_
          refine lv_icmp_ne (tgt := 63) hx hb d_N_look_58 (by decide) (fun c3 => ?_) (fun c3 => ?_)
          · skip
            exact nxt (fun z => by rcases z with z | z; exact c1 z; exact c3 (hks.symm.trans z.2)) _ _ hP hD hS
          · skip
            have c3 : sh t KK i = k := hks.trans c3
            obtain ⟨z1, z2, z3⟩ := fin (Or.inr ⟨c2, c3⟩) _ hP
            have hP : va_P D classes (wN h q cA th hf c mv cq cnt (vi + nI (fct cap (tb t SS KK VV) k)) wk SS KK VV ZZ) H := z2
            have hD : va_D A (wN h q cA th hf c mv cq cnt (vi + nI (fct cap (tb t SS KK VV) k)) wk SS KK VV ZZ) := z3
            refine lv_iload_n hx hb d_N_look_61 rfl (lv_at hl 0 rfl) ?_
            exact hret _ _ _ _ _ _ () d_N_look_62 hP hD hS (by unfold lookA; rw [z1, if_pos c2]) rfl
  refine lv_aload_n hx hb d_N_look_0 rfl (lv_at hl 0 rfl) ?_
  refine lv_iload_n hx hb d_N_look_1 rfl (lv_at hl 1 rfl) ?_
  refine lv_iload_n hx hb d_N_look_2 rfl (lv_at hl 2 rfl) ?_
  refine xV_i (D := D) (k := 2) (ci := 2) (q := ("StepMapModel", F_N, 12)) (wr := []) (wb := fun u => (wN h q cA th hf c mv cq cnt vi wk SS KK VV ZZ)) (rest := []) ⟨hx, hb, hml, hown, ht⟩ (c_N_home l D cA h q th hf c mv cq cnt vi wk SS KK VV ZZ k t cap hc ht2 hz) gv_N_30 (by decide +kernel) rfl ⟨Nat.le_of_ble_eq_true rfl, Nat.le_of_ble_eq_true rfl⟩ hk hP hD hS hA [0, 1, 2, 3, 4] [] [0, 1, 2, 3, 4] rfl rfl (fun _ => rfl) ⟨rfl, rfl, rfl⟩ (by decide) rfl rfl hl.1 rfl (Nat.le_of_ble_eq_true rfl) d_N_look_3 ⟨Nat.zero_le _, Nat.zero_le _⟩ (fun r u H locs hp hP hD hS => ?_)
  have hp : r = (nI (hm cap k)) := hp
  subst hp
  have hP : va_P D classes (wN h q cA th hf c mv cq cnt vi wk SS KK VV ZZ) H := hP
  have hD : va_D A (wN h q cA th hf c mv cq cnt vi wk SS KK VV ZZ) := hD
  refine lv_istore_n (lv' := [(3, .int (nI (hm cap k))), (0, .ref h), (1, .int k), (2, .int (nI t))]) hx hb d_N_look_6 rfl hl (by decide) rfl (fun ls hl => ?_)
  refine lv_aload_n hx hb d_N_look_7 rfl (lv_at hl 1 rfl) ?_
  refine lv_dup hx hb d_N_look_8 rfl ?_
  refine va_get (D := D) (cl := classes) (ci := 2) (v := .int vi) (C := "StepMapModel") (T := F_N) (N := 12) hx hb ht i_N hown hk.1 hP 0 rfl rfl 10 (by decide) (ht _ mw_1_192) (fun _ h9 => h9) rfl d_N_look_9 ?_
  refine lv_iconst (v := 1) hx hb d_N_look_12 (by decide) ?_
  refine lv_iadd hx hb d_N_look_13 ?_
  refine va_put (D := D) (cl := classes) (ci := 2) (v := .int (vi + 1)) (ty := .int) (C := "StepMapModel") (T := F_N) (N := 12) hx hb ht i_N tt_N tt_N_ok n_N hown hk.1 hP hD hS 0 rfl rfl 10 (by decide) (ht _ mw_1_192) (fun _ h9 => h9) rfl (by decide +kernel) rfl rfl (Nat.le_of_ble_eq_true rfl) d_N_look_14 (fun H locs hP hD hS => ?_)
  have hP : va_P D classes (wN h q cA th hf c mv cq cnt (vi + 1) wk SS KK VV ZZ) H := hP
  have hD : va_D A (wN h q cA th hf c mv cq cnt (vi + 1) wk SS KK VV ZZ) := hD
  exact loop cap (hm cap k) (vi + 1) _ _ _ (hm_lt hc k) hf0 hP hD hS hl rfl (by show _ = vi + nI (fdn cap (tb t SS KK VV) k cap (hm cap k) + 1); rw [nI_succ]; ac_rfl)
set_option maxHeartbeats 4000000 in
set_option maxRecDepth 100000 in
theorem c_N_steps (l : Launch) (D : va_G) (cA : ClassId) (h : Nat) (q : Ad) (th hf : Int32) (c : Nat) (mv cq cnt vi wk : Int32) (SS KK VV ZZ : Nat → Int32) (x y cap : Nat) (hc : pw cap) (hc2 : c < 2) (hz : ZZ c = nI cap) (hx0 : x < cap) (hy0 : y < cap) : Mi l D [(cA, .int)] y_N_steps b_N_steps 5 (some .int) 1 22 [.ref h, .int (nI x), .int (nI y)] (wN h q cA th hf (nI c) mv cq cnt vi wk SS KK VV ZZ) (fun r (_ : Unit) => r = nI (ds cap x y)) (fun _ => (wN h q cA th hf (nI c) mv cq cnt vi wk SS KK VV ZZ)) := by
  refine mi_start (own := "StepMapModel") (by decide +kernel) rfl (Nat.le_of_ble_eq_true rfl) ?_
  intro p e s m args below meth cd ls A Q hx hb hml hown ht hk hP hD hA hl hret
  have hS : va_S A s.heap s.heap [] := va_S.rf
  have hl : lv_has ls 5 [(0, .ref h), (1, .int (nI x)), (2, .int (nI y))] := hl
  have hle := hc.le
  have loop : ∀ (f n i : Nat) (H : Heap) (locs : List Loc) (ls : Array Slot), i < cap → ds cap i y = f → n + f = ds cap x y → va_P D classes (wN h q cA th hf (nI c) mv cq cnt vi wk SS KK VV ZZ) H → va_D A (wN h q cA th hf (nI c) mv cq cnt vi wk SS KK VV ZZ) → va_S A s.heap H locs → lv_has ls 5 [(4, .int (nI i)), (3, .int (nI n)), (0, .ref h), (1, .int (nI x)), (2, .int (nI y))] → W p l e { frames := 1, cells := 0, slots := 0, locals := 22 } s m args below meth cd H locs 0 0 Q (F0 m 5 ls []) := by
    intro f
    induction f with
    | zero =>
      intro n i H locs ls hi h1 h2 hP hD hS hl
      have e : i = y := Decidable.byContradiction fun q => by have := ds_pos hi hy0 q; omega
      refine lv_iload hx hb d_N_steps_5 (lv_at hl 0 rfl) ?_
      refine lv_iload_n hx hb d_N_steps_7 rfl (lv_at hl 4 rfl) ?_
      refine lv_icmp_eq (tgt := 29) hx hb d_N_steps_8 (by decide) (fun _ => ?_) (fun c9 => absurd (by rw [e]) c9)
      refine lv_iload_n hx hb d_N_steps_29 rfl (lv_at hl 1 rfl) ?_
      exact hret _ _ _ _ _ _ () d_N_steps_30 hP hD hS (by rw [← h2]; rfl) rfl
    | succ f ih =>
      intro n i H locs ls hi h1 h2 hP hD hS hl
      have e : ¬ i = y := fun q => by rw [q, ds_self hy0] at h1; omega
      have e2 := ds_nx hi hy0 e
      refine lv_iload hx hb d_N_steps_5 (lv_at hl 0 rfl) ?_
      refine lv_iload_n hx hb d_N_steps_7 rfl (lv_at hl 4 rfl) ?_
      refine lv_icmp_eq (tgt := 29) hx hb d_N_steps_8 (by decide) (fun c9 => absurd c9 (fun q => e ((nI_eq (by omega) (by omega)).mp q))) (fun _ => ?_)
      refine lv_aload_n hx hb d_N_steps_11 rfl (lv_at hl 2 rfl) ?_
      refine lv_iload hx hb d_N_steps_12 (lv_at hl 0 rfl) ?_
      refine lv_aload_n hx hb d_N_steps_14 rfl (lv_at hl 2 rfl) ?_
      refine va_get (D := D) (cl := classes) (ci := 2) (v := .int (nI c)) (C := "StepMapModel") (T := F_N) (N := 12) hx hb ht i_N hown hk.1 hP 0 rfl rfl 6 (by decide) (ht _ mw_1_188) (fun _ h9 => h9) rfl d_N_steps_15 ?_
      refine xV_i (D := D) (k := 2) (ci := 2) (q := ("StepMapModel", F_N, 12)) (wr := []) (wb := fun u => (wN h q cA th hf (nI c) mv cq cnt vi wk SS KK VV ZZ)) (rest := []) ⟨hx, hb, hml, hown, ht⟩ (c_N_behind l D cA h q th hf (nI c) mv cq cnt vi wk SS KK VV ZZ i c cap hc hc2 hz hi) gv_N_40 (by decide +kernel) rfl ⟨Nat.le_of_ble_eq_true rfl, Nat.le_of_ble_eq_true rfl⟩ hk hP hD hS hA [0, 1, 2, 3, 4] [] [0, 1, 2, 3, 4] rfl rfl (fun _ => rfl) ⟨rfl, rfl, rfl⟩ (by decide) rfl rfl hl.1 rfl (Nat.le_of_ble_eq_true rfl) d_N_steps_18 ⟨Nat.zero_le _, Nat.zero_le _⟩ (fun r u H locs hp hP hD hS => ?_)
      have hp : r = (nI (nx cap i)) := hp
      subst hp
      have hP : va_P D classes (wN h q cA th hf (nI c) mv cq cnt vi wk SS KK VV ZZ) H := hP
      have hD : va_D A (wN h q cA th hf (nI c) mv cq cnt vi wk SS KK VV ZZ) := hD
      refine lv_istore (lv' := [(4, .int (nI (nx cap i))), (3, .int (nI n)), (0, .ref h), (1, .int (nI x)), (2, .int (nI y))]) hx hb d_N_steps_21 hl (by decide) rfl (fun ls hl => ?_)
      refine lv_iinc (v := (nI (n + 1))) (lv' := [(3, .int (nI (n + 1))), (4, .int (nI (nx cap i))), (0, .ref h), (1, .int (nI x)), (2, .int (nI y))]) hx hb d_N_steps_23 hl (k := 1) rfl (nI_1 n) (by decide) rfl (fun ls hl => ?_)
      refine lv_goto (tgt := 5) hx hb d_N_steps_26 (by decide) ?_
      exact ih (n + 1) (nx cap i) _ _ _ (nx_lt hc i) (by omega) (by omega) hP hD hS (lv_sub hl [1, 0, 2, 3, 4] rfl)
  refine lv_iconst (v := 0) hx hb d_N_steps_0 (by decide) ?_
  refine x_top (z := (nI 0)) (nI_0.symm) ?_
  refine lv_istore_n (lv' := [(3, .int (nI 0)), (0, .ref h), (1, .int (nI x)), (2, .int (nI y))]) hx hb d_N_steps_1 rfl hl (by decide) rfl (fun ls hl => ?_)
  refine lv_iload_n hx hb d_N_steps_2 rfl (lv_at hl 2 rfl) ?_
  refine lv_istore (lv' := [(4, .int (nI x)), (3, .int (nI 0)), (0, .ref h), (1, .int (nI x)), (2, .int (nI y))]) hx hb d_N_steps_3 hl (by decide) rfl (fun ls hl => ?_)
  exact loop (ds cap x y) 0 x _ _ _ hx0 rfl (by omega) hP hD hS hl
set_option maxHeartbeats 4000000 in
set_option maxRecDepth 100000 in
theorem c_N_size (l : Launch) (D : va_G) (cA : ClassId) (h : Nat) (q : Ad) (th hf c mv cq cnt vi wk : Int32) (SS KK VV ZZ : Nat → Int32)  : Mi l D [(cA, .int)] y_N_size b_N_size 1 (some .int) 0 0 [.ref h] (wN h q cA th hf c mv cq cnt vi wk SS KK VV ZZ) (fun r (_ : Unit) => r = cnt) (fun _ => (wN h q cA 0 hf c mv cq cnt vi wk SS KK VV ZZ)) := by
  refine mi_start (own := "StepMapModel") (by decide +kernel) rfl (Nat.le_of_ble_eq_true rfl) ?_
  intro p e s m args below meth cd ls A Q hx hb hml hown ht hk hP hD hA hl hret
  have hS : va_S A s.heap s.heap [] := va_S.rf
  have hl : lv_has ls 1 [(0, .ref h)] := hl
  refine lv_aload_n hx hb d_N_size_0 rfl (lv_at hl 0 rfl) ?_
  refine lv_iconst (v := 0) hx hb d_N_size_1 (by decide) ?_
  refine va_put (D := D) (cl := classes) (ci := 2) (v := .int 0) (ty := .int) (C := "StepMapModel") (T := F_N) (N := 12) hx hb ht i_N tt_N tt_N_ok n_N hown hk.1 hP hD hS 0 rfl rfl 0 (by decide) (ht _ mw_1_182) (fun _ h9 => h9) rfl (by decide +kernel) rfl rfl (Nat.le_of_ble_eq_true rfl) d_N_size_2 (fun H locs hP hD hS => ?_)
  have hP : va_P D classes (wN h q cA 0 hf c mv cq cnt vi wk SS KK VV ZZ) H := hP
  have hD : va_D A (wN h q cA 0 hf c mv cq cnt vi wk SS KK VV ZZ) := hD
  refine lv_aload_n hx hb d_N_size_5 rfl (lv_at hl 0 rfl) ?_
  refine va_get (D := D) (cl := classes) (ci := 2) (v := .int cnt) (C := "StepMapModel") (T := F_N) (N := 12) hx hb ht i_N hown hk.1 hP 0 rfl rfl 9 (by decide) (ht _ mw_1_191) (fun _ h9 => h9) rfl d_N_size_6 ?_
  exact hret _ _ _ _ _ _ () d_N_size_9 hP hD hS (rfl) rfl
set_option maxHeartbeats 4000000 in
set_option maxRecDepth 100000 in
theorem c_N_lastWork (l : Launch) (D : va_G) (cA : ClassId) (h : Nat) (q : Ad) (th hf c mv cq cnt vi wk : Int32) (SS KK VV ZZ : Nat → Int32)  : Mi l D [(cA, .int)] y_N_lastWork b_N_lastWork 1 (some .int) 0 0 [.ref h] (wN h q cA th hf c mv cq cnt vi wk SS KK VV ZZ) (fun r (_ : Unit) => r = wk) (fun _ => (wN h q cA 0 hf c mv cq cnt vi wk SS KK VV ZZ)) := by
  refine mi_start (own := "StepMapModel") (by decide +kernel) rfl (Nat.le_of_ble_eq_true rfl) ?_
  intro p e s m args below meth cd ls A Q hx hb hml hown ht hk hP hD hA hl hret
  have hS : va_S A s.heap s.heap [] := va_S.rf
  have hl : lv_has ls 1 [(0, .ref h)] := hl
  refine lv_aload_n hx hb d_N_lastWork_0 rfl (lv_at hl 0 rfl) ?_
  refine lv_iconst (v := 0) hx hb d_N_lastWork_1 (by decide) ?_
  refine va_put (D := D) (cl := classes) (ci := 2) (v := .int 0) (ty := .int) (C := "StepMapModel") (T := F_N) (N := 12) hx hb ht i_N tt_N tt_N_ok n_N hown hk.1 hP hD hS 0 rfl rfl 0 (by decide) (ht _ mw_1_182) (fun _ h9 => h9) rfl (by decide +kernel) rfl rfl (Nat.le_of_ble_eq_true rfl) d_N_lastWork_2 (fun H locs hP hD hS => ?_)
  have hP : va_P D classes (wN h q cA 0 hf c mv cq cnt vi wk SS KK VV ZZ) H := hP
  have hD : va_D A (wN h q cA 0 hf c mv cq cnt vi wk SS KK VV ZZ) := hD
  refine lv_aload_n hx hb d_N_lastWork_5 rfl (lv_at hl 0 rfl) ?_
  refine va_get (D := D) (cl := classes) (ci := 2) (v := .int wk) (C := "StepMapModel") (T := F_N) (N := 12) hx hb ht i_N hown hk.1 hP 0 rfl rfl 11 (by decide) (ht _ mw_1_193) (fun _ h9 => h9) rfl d_N_lastWork_6 ?_
  exact hret _ _ _ _ _ _ () d_N_lastWork_9 hP hD hS (rfl) rfl
set_option maxHeartbeats 4000000 in
set_option maxRecDepth 100000 in
theorem c_N_migrating (l : Launch) (D : va_G) (cA : ClassId) (h : Nat) (q : Ad) (th hf c mv cq cnt vi wk : Int32) (SS KK VV ZZ : Nat → Int32) (h01 : mv = 0 ∨ mv = 1) : Mi l D [(cA, .int)] y_N_migrating b_N_migrating 1 (some .boolean) 0 0 [.ref h] (wN h q cA th hf c mv cq cnt vi wk SS KK VV ZZ) (fun r (_ : Unit) => r = mv) (fun _ => (wN h q cA 0 hf c mv cq cnt vi wk SS KK VV ZZ)) := by
  refine mz_start (own := "StepMapModel") (by decide +kernel) rfl (Nat.le_of_ble_eq_true rfl) ?_
  intro p e s m args below meth cd ls A Q hx hb hml hown ht hk hP hD hA hl hret
  have hS : va_S A s.heap s.heap [] := va_S.rf
  have hl : lv_has ls 1 [(0, .ref h)] := hl
  refine lv_aload_n hx hb d_N_migrating_0 rfl (lv_at hl 0 rfl) ?_
  refine lv_iconst (v := 0) hx hb d_N_migrating_1 (by decide) ?_
  refine va_put (D := D) (cl := classes) (ci := 2) (v := .int 0) (ty := .int) (C := "StepMapModel") (T := F_N) (N := 12) hx hb ht i_N tt_N tt_N_ok n_N hown hk.1 hP hD hS 0 rfl rfl 0 (by decide) (ht _ mw_1_182) (fun _ h9 => h9) rfl (by decide +kernel) rfl rfl (Nat.le_of_ble_eq_true rfl) d_N_migrating_2 (fun H locs hP hD hS => ?_)
  have hP : va_P D classes (wN h q cA 0 hf c mv cq cnt vi wk SS KK VV ZZ) H := hP
  have hD : va_D A (wN h q cA 0 hf c mv cq cnt vi wk SS KK VV ZZ) := hD
  refine lv_aload_n hx hb d_N_migrating_5 rfl (lv_at hl 0 rfl) ?_
  refine va_get (D := D) (cl := classes) (ci := 2) (v := .int mv) (C := "StepMapModel") (T := F_N) (N := 12) hx hb ht i_N hown hk.1 hP 0 rfl rfl 7 (by decide) (ht _ mw_1_189) (fun _ h9 => h9) rfl d_N_migrating_6 ?_
  exact hret _ _ _ _ _ _ () d_N_migrating_9 h01 hP hD hS (rfl) rfl
set_option maxHeartbeats 4000000 in
set_option maxRecDepth 100000 in
theorem c_N_capacity (l : Launch) (D : va_G) (cA : ClassId) (h : Nat) (q : Ad) (th hf : Int32) (c : Nat) (mv cq cnt vi wk : Int32) (SS KK VV ZZ : Nat → Int32) (hc2 : c < 2) : Mi l D [(cA, .int)] y_N_capacity b_N_capacity 1 (some .int) 0 0 [.ref h] (wN h q cA th hf (nI c) mv cq cnt vi wk SS KK VV ZZ) (fun r (_ : Unit) => r = ZZ c) (fun _ => (wN h q cA 0 hf (nI c) mv cq cnt vi wk SS KK VV ZZ)) := by
  refine mi_start (own := "StepMapModel") (by decide +kernel) rfl (Nat.le_of_ble_eq_true rfl) ?_
  intro p e s m args below meth cd ls A Q hx hb hml hown ht hk hP hD hA hl hret
  have hS : va_S A s.heap s.heap [] := va_S.rf
  have hl : lv_has ls 1 [(0, .ref h)] := hl
  refine lv_aload_n hx hb d_N_capacity_0 rfl (lv_at hl 0 rfl) ?_
  refine lv_iconst (v := 0) hx hb d_N_capacity_1 (by decide) ?_
  refine va_put (D := D) (cl := classes) (ci := 2) (v := .int 0) (ty := .int) (C := "StepMapModel") (T := F_N) (N := 12) hx hb ht i_N tt_N tt_N_ok n_N hown hk.1 hP hD hS 0 rfl rfl 0 (by decide) (ht _ mw_1_182) (fun _ h9 => h9) rfl (by decide +kernel) rfl rfl (Nat.le_of_ble_eq_true rfl) d_N_capacity_2 (fun H locs hP hD hS => ?_)
  have hP : va_P D classes (wN h q cA 0 hf (nI c) mv cq cnt vi wk SS KK VV ZZ) H := hP
  have hD : va_D A (wN h q cA 0 hf (nI c) mv cq cnt vi wk SS KK VV ZZ) := hD
  refine lv_aload_n hx hb d_N_capacity_5 rfl (lv_at hl 0 rfl) ?_
  refine va_get (D := D) (cl := classes) (ci := 2) (v := .ref q.2.2.2) (C := "StepMapModel") (T := F_N) (N := 12) hx hb ht i_N hown hk.1 hP 0 rfl rfl 5 (by decide) (ht _ mw_1_187) (fun _ h9 => h9) rfl d_N_capacity_6 ?_
  refine lv_aload_n hx hb d_N_capacity_9 rfl (lv_at hl 0 rfl) ?_
  refine va_get (D := D) (cl := classes) (ci := 2) (v := .int (nI c)) (C := "StepMapModel") (T := F_N) (N := 12) hx hb ht i_N hown hk.1 hP 0 rfl rfl 6 (by decide) (ht _ mw_1_188) (fun _ h9 => h9) rfl d_N_capacity_10 ?_
  refine x_ald hx hb hk hP 4 0 rfl rfl (i := c) (by omega) (by omega) d_N_capacity_13 ?_
  exact hret _ _ _ _ _ _ () d_N_capacity_14 hP hD hS (rfl) rfl
set_option maxHeartbeats 4000000 in
set_option maxRecDepth 100000 in
theorem c_N_cursor (l : Launch) (D : va_G) (cA : ClassId) (h : Nat) (q : Ad) (th hf c mv cq cnt vi wk : Int32) (SS KK VV ZZ : Nat → Int32)  : Mi l D [(cA, .int)] y_N_cursor b_N_cursor 1 (some .int) 0 0 [.ref h] (wN h q cA th hf c mv cq cnt vi wk SS KK VV ZZ) (fun r (_ : Unit) => r = if mv = 0 then -1 else cq) (fun _ => (wN h q cA 0 hf c mv cq cnt vi wk SS KK VV ZZ)) := by
  refine mi_start (own := "StepMapModel") (by decide +kernel) rfl (Nat.le_of_ble_eq_true rfl) ?_
  intro p e s m args below meth cd ls A Q hx hb hml hown ht hk hP hD hA hl hret
  have hS : va_S A s.heap s.heap [] := va_S.rf
  have hl : lv_has ls 1 [(0, .ref h)] := hl
  refine lv_aload_n hx hb d_N_cursor_0 rfl (lv_at hl 0 rfl) ?_
  refine lv_iconst (v := 0) hx hb d_N_cursor_1 (by decide) ?_
  refine va_put (D := D) (cl := classes) (ci := 2) (v := .int 0) (ty := .int) (C := "StepMapModel") (T := F_N) (N := 12) hx hb ht i_N tt_N tt_N_ok n_N hown hk.1 hP hD hS 0 rfl rfl 0 (by decide) (ht _ mw_1_182) (fun _ h9 => h9) rfl (by decide +kernel) rfl rfl (Nat.le_of_ble_eq_true rfl) d_N_cursor_2 (fun H locs hP hD hS => ?_)
  have hP : va_P D classes (wN h q cA 0 hf c mv cq cnt vi wk SS KK VV ZZ) H := hP
  have hD : va_D A (wN h q cA 0 hf c mv cq cnt vi wk SS KK VV ZZ) := hD
  refine lv_aload_n hx hb d_N_cursor_5 rfl (lv_at hl 0 rfl) ?_
  refine va_get (D := D) (cl := classes) (ci := 2) (v := .int mv) (C := "StepMapModel") (T := F_N) (N := 12) hx hb ht i_N hown hk.1 hP 0 rfl rfl 7 (by decide) (ht _ mw_1_189) (fun _ h9 => h9) rfl d_N_cursor_6 ?_
  refine lv_if_eq (tgt := 19) hx hb d_N_cursor_9 (by decide) (fun c1 => ?_) (fun c1 => ?_)
  · skip
    refine lv_iconst (v := (-1)) hx hb d_N_cursor_19 (by decide) ?_
    exact hret _ _ _ _ _ _ () d_N_cursor_20 hP hD hS ((if_pos c1).symm) rfl
  · skip
    refine lv_aload_n hx hb d_N_cursor_12 rfl (lv_at hl 0 rfl) ?_
    refine va_get (D := D) (cl := classes) (ci := 2) (v := .int cq) (C := "StepMapModel") (T := F_N) (N := 12) hx hb ht i_N hown hk.1 hP 0 rfl rfl 8 (by decide) (ht _ mw_1_190) (fun _ h9 => h9) rfl d_N_cursor_13 ?_
    refine lv_goto (tgt := 20) hx hb d_N_cursor_16 (by decide) ?_
    exact hret _ _ _ _ _ _ () d_N_cursor_20 hP hD hS ((if_neg c1).symm) rfl
end
section
theorem vis0 (v : Int32) (X f : Nat) : v + 1 + nI (X + f) = v + nI (0 + X + (f + 1)) := by
  rw [show 0 + X + (f + 1) = X + f + 1 by omega, nI_succ]; ac_rfl
theorem vis1 (v : Int32) (y X f : Nat) : v + 1 + nI y + nI (X + f) = v + nI (y + X + (f + 1)) := by
  rw [show y + X + (f + 1) = y + (X + f) + 1 by omega, nI_succ, ← nI_add y]; ac_rfl
set_option maxHeartbeats 4000000 in
set_option maxRecDepth 100000 in
theorem c_N_free (l : Launch) (D : va_G) (cA : ClassId) (h : Nat) (q : Ad) (th hf : Int32) (c : Nat) (mv cq cnt vi wk : Int32) (SS KK VV ZZ : Nat → Int32) (sl cap : Nat) (hc : pw cap) (hc2 : c < 2) (hz : ZZ c = nI cap) (h01 : ∀ j, j < cap → sh c SS j = 0 ∨ sh c SS j = 1) (hs0 : sl < cap) (h1 : sh c SS sl = 1) (hez : enz cap (sh c SS) cap (nx cap sl)) : Mv l D [(cA, .int)] y_N_free b_N_free 5 2 46 0 0 [.ref h, .int (nI sl)] (wN h q cA th hf (nI c) mv cq cnt vi wk SS KK VV ZZ) (fun (u : (Nat → Int32) × (Nat → Int32) × (Nat → Int32)) => tb c u.1 u.2.1 u.2.2 = cup cap (tb c SS KK VV) sl ∧ tb (1 - c) u.1 u.2.1 u.2.2 = (tb (1 - c) SS KK VV)) (fun u => (wN h q cA th hf (nI c) mv cq cnt (vi + nI (cuc cap (tb c SS KK VV) sl)) wk u.1 u.2.1 u.2.2 ZZ)) := by
  refine mv_start (own := "StepMapModel") (by decide +kernel) rfl (Nat.le_of_ble_eq_true rfl) ?_
  intro p e s m args below meth cd ls A Q hx hb hml hin hown ht hk hP hD hA hl hret
  have hS : va_S A s.heap s.heap [] := va_S.rf
  have hl : lv_has ls 5 [(0, .ref h), (1, .int (nI sl))] := hl
  have hle := hc.le
  have hcc : ¬ c = 1 - c := by omega
  have loop : ∀ (f fr i : Nat) (KK1 VV1 : Nat → Int32) (v1 : Int32) (H : Heap) (locs : List Loc) (ls : Array Slot), fr < cap → sh c SS fr = 1 → i < cap → enz cap (sh c SS) f i → va_P D classes (wN h q cA th hf (nI c) mv cq cnt v1 wk SS KK1 VV1 ZZ) H → va_D A (wN h q cA th hf (nI c) mv cq cnt v1 wk SS KK1 VV1 ZZ) → va_S A s.heap H locs → lv_has ls 5 [(3, .int (nI i)), (2, .int (nI fr)), (0, .ref h), (1, .int (nI sl))] → sh (1 - c) KK1 = sh (1 - c) KK → sh (1 - c) VV1 = sh (1 - c) VV → cu cap (sh c SS) f fr i (sh c KK1) (sh c VV1) = cur3 cap (tb c SS KK VV) sl → v1 + nI (cun cap (sh c SS) f i) = vi + nI (cuc cap (tb c SS KK VV) sl) → W p l e { frames := 2, cells := 0, slots := 0, locals := 46 } s m args below meth cd H locs 0 0 Q (F0 m 22 ls []) := by
    intro f
    induction f with
    | zero => intro fr i KK1 VV1 v1 H locs ls _ _ _ h2; exact h2.elim
    | succ f ih =>
      intro fr i KK1 VV1 v1 H locs ls hfr hs1 hi he hP hD hS hl o1 o2 e1 e2
      have hi4 : i < 1024 := by omega
      have hf4 : fr < 1024 := by omega
      refine lv_aload_n hx hb d_N_free_22 rfl (lv_at hl 2 rfl) ?_
      refine va_get (D := D) (cl := classes) (ci := 2) (v := .ref q.1) (C := "StepMapModel") (T := F_N) (N := 12) hx hb ht i_N hown hk.1 hP 0 rfl rfl 2 (by decide) (ht _ mw_1_184) (fun _ h9 => h9) rfl d_N_free_23 ?_
      refine lv_aload_n hx hb d_N_free_26 rfl (lv_at hl 2 rfl) ?_
      refine lv_aload_n hx hb d_N_free_27 rfl (lv_at hl 2 rfl) ?_
      refine va_get (D := D) (cl := classes) (ci := 2) (v := .int (nI c)) (C := "StepMapModel") (T := F_N) (N := 12) hx hb ht i_N hown hk.1 hP 0 rfl rfl 6 (by decide) (ht _ mw_1_188) (fun _ h9 => h9) rfl d_N_free_28 ?_
      refine lv_iload_n hx hb d_N_free_31 rfl (lv_at hl 0 rfl) ?_
      refine xV_i (D := D) (k := 2) (ci := 2) (q := ("StepMapModel", F_N, 12)) (wr := []) (wb := fun u => (wN h q cA th hf (nI c) mv cq cnt v1 wk SS KK1 VV1 ZZ)) (rest := [.ref q.1]) ⟨hx, hb, hml, hown, ht⟩ (c_N_at l D cA h q th hf (nI c) mv cq cnt v1 wk SS KK1 VV1 ZZ c i) gv_N_37 (by decide +kernel) rfl ⟨Nat.le_of_ble_eq_true rfl, Nat.le_of_ble_eq_true rfl⟩ hk hP hD hS hA [0, 1, 2, 3, 4] [] [0, 1, 2, 3, 4] rfl rfl (fun _ => rfl) ⟨rfl, rfl, rfl⟩ (by decide) rfl rfl hl.1 rfl (Nat.le_of_ble_eq_true rfl) d_N_free_32 ⟨Nat.zero_le _, Nat.zero_le _⟩ (fun r u H locs hp hP hD hS => ?_)
      have hp : r = (nI (1024 * c + i)) := hp
      subst hp
      have hP : va_P D classes (wN h q cA th hf (nI c) mv cq cnt v1 wk SS KK1 VV1 ZZ) H := hP
      have hD : va_D A (wN h q cA th hf (nI c) mv cq cnt v1 wk SS KK1 VV1 ZZ) := hD
      refine x_ald hx hb hk hP 1 0 rfl rfl (i := (1024 * c + i)) (by omega) (by omega) d_N_free_35 ?_
      refine x_top (z := (sh c SS i)) ((sh_at SS hi4).symm) ?_
      refine lv_if_eq (tgt := 149) hx hb d_N_free_36 (by decide) (fun c1 => ?_) (fun c1 => ?_)
      · skip
        simp only [cu, cun, if_pos c1] at e1 e2
        refine lv_aload_n hx hb d_N_free_149 rfl (lv_at hl 2 rfl) ?_
        refine va_get (D := D) (cl := classes) (ci := 2) (v := .ref q.1) (C := "StepMapModel") (T := F_N) (N := 12) hx hb ht i_N hown hk.1 hP 0 rfl rfl 2 (by decide) (ht _ mw_1_184) (fun _ h9 => h9) rfl d_N_free_150 ?_
        refine lv_aload_n hx hb d_N_free_153 rfl (lv_at hl 2 rfl) ?_
        refine lv_aload_n hx hb d_N_free_154 rfl (lv_at hl 2 rfl) ?_
        refine va_get (D := D) (cl := classes) (ci := 2) (v := .int (nI c)) (C := "StepMapModel") (T := F_N) (N := 12) hx hb ht i_N hown hk.1 hP 0 rfl rfl 6 (by decide) (ht _ mw_1_188) (fun _ h9 => h9) rfl d_N_free_155 ?_
        refine lv_iload_n hx hb d_N_free_158 rfl (lv_at hl 1 rfl) ?_
        refine xV_i (D := D) (k := 2) (ci := 2) (q := ("StepMapModel", F_N, 12)) (wr := []) (wb := fun u => (wN h q cA th hf (nI c) mv cq cnt v1 wk SS KK1 VV1 ZZ)) (rest := [.ref q.1]) ⟨hx, hb, hml, hown, ht⟩ (c_N_at l D cA h q th hf (nI c) mv cq cnt v1 wk SS KK1 VV1 ZZ c fr) gv_N_37 (by decide +kernel) rfl ⟨Nat.le_of_ble_eq_true rfl, Nat.le_of_ble_eq_true rfl⟩ hk hP hD hS hA [0, 1, 2, 3, 4] [] [0, 1, 2, 3, 4] rfl rfl (fun _ => rfl) ⟨rfl, rfl, rfl⟩ (by decide) rfl rfl hl.1 rfl (Nat.le_of_ble_eq_true rfl) d_N_free_159 ⟨Nat.zero_le _, Nat.zero_le _⟩ (fun r u H locs hp hP hD hS => ?_)
        have hp : r = (nI (1024 * c + fr)) := hp
        subst hp
        have hP : va_P D classes (wN h q cA th hf (nI c) mv cq cnt v1 wk SS KK1 VV1 ZZ) H := hP
        have hD : va_D A (wN h q cA th hf (nI c) mv cq cnt v1 wk SS KK1 VV1 ZZ) := hD
        refine lv_iconst (v := 0) hx hb d_N_free_162 (by decide) ?_
        refine x_ast hx hb hk hP hD hS 1 0 rfl rfl (i := (1024 * c + fr)) (x := 0) (by omega) (by omega) d_N_free_163 (fun H locs hP hD hS => ?_)
        have hP : va_P D classes (wN h q cA th hf (nI c) mv cq cnt v1 wk (upd SS (1024 * c + fr) 0) KK1 VV1 ZZ) H := hP
        have hD : va_D A (wN h q cA th hf (nI c) mv cq cnt v1 wk (upd SS (1024 * c + fr) 0) KK1 VV1 ZZ) := hD
        have e2 : v1 = vi + nI (cuc cap (tb c SS KK VV) sl) := by rw [← e2, nI_0, ia0]
        rw [e2] at hP hD
        have e3 : tb c (upd SS (1024 * c + fr) 0) KK1 VV1 = cup cap (tb c SS KK VV) sl := by unfold cup; rw [← e1]; show (sh c KK1, sh c VV1, sh c (upd SS (1024 * c + fr) 0)) = _; rw [sh_upd SS 0 hf4]
        have e4 : tb (1 - c) (upd SS (1024 * c + fr) 0) KK1 VV1 = (tb (1 - c) SS KK VV) := by show (sh (1 - c) KK1, sh (1 - c) VV1, sh (1 - c) (upd SS (1024 * c + fr) 0)) = _; rw [sh_upd_o SS 0 hf4 hcc, o1, o2]
        exact hret _ _ _ _ _ (upd SS (1024 * c + fr) 0, KK1, VV1) d_N_free_164 hP hD hS (⟨e3, e4⟩) rfl
      · skip
        have he : enz cap (sh c SS) f (nx cap i) := by rcases he with z | z; exact absurd z c1; exact z
        have hi1 : sh c SS i = 1 := by rcases h01 i hi with z | z; exact absurd z c1; exact z
        refine lv_aload_n hx hb d_N_free_39 rfl (lv_at hl 2 rfl) ?_
        refine lv_aload_n hx hb d_N_free_40 rfl (lv_at hl 2 rfl) ?_
        refine lv_aload_n hx hb d_N_free_41 rfl (lv_at hl 2 rfl) ?_
        refine va_get (D := D) (cl := classes) (ci := 2) (v := .ref q.2.1) (C := "StepMapModel") (T := F_N) (N := 12) hx hb ht i_N hown hk.1 hP 0 rfl rfl 3 (by decide) (ht _ mw_1_185) (fun _ h9 => h9) rfl d_N_free_42 ?_
        refine lv_aload_n hx hb d_N_free_45 rfl (lv_at hl 2 rfl) ?_
        refine lv_aload_n hx hb d_N_free_46 rfl (lv_at hl 2 rfl) ?_
        refine va_get (D := D) (cl := classes) (ci := 2) (v := .int (nI c)) (C := "StepMapModel") (T := F_N) (N := 12) hx hb ht i_N hown hk.1 hP 0 rfl rfl 6 (by decide) (ht _ mw_1_188) (fun _ h9 => h9) rfl d_N_free_47 ?_
        refine lv_iload_n hx hb d_N_free_50 rfl (lv_at hl 0 rfl) ?_
        refine xV_i (D := D) (k := 2) (ci := 2) (q := ("StepMapModel", F_N, 12)) (wr := []) (wb := fun u => (wN h q cA th hf (nI c) mv cq cnt v1 wk SS KK1 VV1 ZZ)) (rest := [.ref q.2.1, .ref h, .ref h]) ⟨hx, hb, hml, hown, ht⟩ (c_N_at l D cA h q th hf (nI c) mv cq cnt v1 wk SS KK1 VV1 ZZ c i) gv_N_37 (by decide +kernel) rfl ⟨Nat.le_of_ble_eq_true rfl, Nat.le_of_ble_eq_true rfl⟩ hk hP hD hS hA [0, 1, 2, 3, 4] [] [0, 1, 2, 3, 4] rfl rfl (fun _ => rfl) ⟨rfl, rfl, rfl⟩ (by decide) rfl rfl hl.1 rfl (Nat.le_of_ble_eq_true rfl) d_N_free_51 ⟨Nat.zero_le _, Nat.zero_le _⟩ (fun r u H locs hp hP hD hS => ?_)
        have hp : r = (nI (1024 * c + i)) := hp
        subst hp
        have hP : va_P D classes (wN h q cA th hf (nI c) mv cq cnt v1 wk SS KK1 VV1 ZZ) H := hP
        have hD : va_D A (wN h q cA th hf (nI c) mv cq cnt v1 wk SS KK1 VV1 ZZ) := hD
        refine x_ald hx hb hk hP 2 0 rfl rfl (i := (1024 * c + i)) (by omega) (by omega) d_N_free_54 ?_
        refine x_top (z := (sh c KK1 i)) ((sh_at KK1 hi4).symm) ?_
        refine lv_aload_n hx hb d_N_free_55 rfl (lv_at hl 2 rfl) ?_
        refine va_get (D := D) (cl := classes) (ci := 2) (v := .int (nI c)) (C := "StepMapModel") (T := F_N) (N := 12) hx hb ht i_N hown hk.1 hP 0 rfl rfl 6 (by decide) (ht _ mw_1_188) (fun _ h9 => h9) rfl d_N_free_56 ?_
        refine xV_i (D := D) (k := 2) (ci := 2) (q := ("StepMapModel", F_N, 12)) (wr := []) (wb := fun u => (wN h q cA th hf (nI c) mv cq cnt v1 wk SS KK1 VV1 ZZ)) (rest := [.ref h]) ⟨hx, hb, hml, hown, ht⟩ (c_N_home l D cA h q th hf (nI c) mv cq cnt v1 wk SS KK1 VV1 ZZ (sh c KK1 i) c cap hc hc2 hz) gv_N_30 (by decide +kernel) rfl ⟨Nat.le_of_ble_eq_true rfl, Nat.le_of_ble_eq_true rfl⟩ hk hP hD hS hA [0, 1, 2, 3, 4] [] [0, 1, 2, 3, 4] rfl rfl (fun _ => rfl) ⟨rfl, rfl, rfl⟩ (by decide) rfl rfl hl.1 rfl (Nat.le_of_ble_eq_true rfl) d_N_free_59 ⟨Nat.zero_le _, Nat.zero_le _⟩ (fun r u H locs hp hP hD hS => ?_)
        have hp : r = (nI (hm cap (sh c KK1 i))) := hp
        subst hp
        have hP : va_P D classes (wN h q cA th hf (nI c) mv cq cnt v1 wk SS KK1 VV1 ZZ) H := hP
        have hD : va_D A (wN h q cA th hf (nI c) mv cq cnt v1 wk SS KK1 VV1 ZZ) := hD
        refine lv_iload_n hx hb d_N_free_62 rfl (lv_at hl 0 rfl) ?_
        refine xV_i (D := D) (k := 2) (ci := 2) (q := ("StepMapModel", F_N, 12)) (wr := []) (wb := fun u => (wN h q cA th hf (nI c) mv cq cnt v1 wk SS KK1 VV1 ZZ)) (rest := []) ⟨hx, hb, hml, hown, ht⟩ (c_N_steps l D cA h q th hf c mv cq cnt v1 wk SS KK1 VV1 ZZ (hm cap (sh c KK1 i)) i cap hc hc2 hz (hm_lt hc _) hi) gv_N_85 (by decide +kernel) rfl ⟨Nat.le_of_ble_eq_true rfl, Nat.le_of_ble_eq_true rfl⟩ hk hP hD hS hA [0, 1, 2, 3, 4] [] [0, 1, 2, 3, 4] rfl rfl (fun _ => rfl) ⟨rfl, rfl, rfl⟩ (by decide) rfl rfl hl.1 rfl (Nat.le_of_ble_eq_true rfl) d_N_free_63 ⟨Nat.zero_le _, Nat.zero_le _⟩ (fun r u H locs hp hP hD hS => ?_)
        have hp : r = (nI (ds cap (hm cap (sh c KK1 i)) i)) := hp
        subst hp
        have hP : va_P D classes (wN h q cA th hf (nI c) mv cq cnt v1 wk SS KK1 VV1 ZZ) H := hP
        have hD : va_D A (wN h q cA th hf (nI c) mv cq cnt v1 wk SS KK1 VV1 ZZ) := hD
        refine lv_aload_n hx hb d_N_free_66 rfl (lv_at hl 2 rfl) ?_
        refine lv_iload_n hx hb d_N_free_67 rfl (lv_at hl 1 rfl) ?_
        refine lv_iload_n hx hb d_N_free_68 rfl (lv_at hl 0 rfl) ?_
        refine xV_i (D := D) (k := 2) (ci := 2) (q := ("StepMapModel", F_N, 12)) (wr := []) (wb := fun u => (wN h q cA th hf (nI c) mv cq cnt v1 wk SS KK1 VV1 ZZ)) (rest := [.int (nI (ds cap (hm cap (sh c KK1 i)) i))]) ⟨hx, hb, hml, hown, ht⟩ (c_N_steps l D cA h q th hf c mv cq cnt v1 wk SS KK1 VV1 ZZ fr i cap hc hc2 hz hfr hi) gv_N_85 (by decide +kernel) rfl ⟨Nat.le_of_ble_eq_true rfl, Nat.le_of_ble_eq_true rfl⟩ hk hP hD hS hA [0, 1, 2, 3, 4] [] [0, 1, 2, 3, 4] rfl rfl (fun _ => rfl) ⟨rfl, rfl, rfl⟩ (by decide) rfl rfl hl.1 rfl (Nat.le_of_ble_eq_true rfl) d_N_free_69 ⟨Nat.zero_le _, Nat.zero_le _⟩ (fun r u H locs hp hP hD hS => ?_)
        have hp : r = (nI (ds cap fr i)) := hp
        subst hp
        have hP : va_P D classes (wN h q cA th hf (nI c) mv cq cnt v1 wk SS KK1 VV1 ZZ) H := hP
        have hD : va_D A (wN h q cA th hf (nI c) mv cq cnt v1 wk SS KK1 VV1 ZZ) := hD
        have d1 := ds_lt hc (hm cap (sh c KK1 i)) i
        have d2 := ds_lt hc fr i
        refine lv_icmp_ge (tgt := 79) hx hb d_N_free_72 (by decide) (fun c2 => ?_) (fun c2 => ?_)
        · skip
          have hAA : ds cap fr i ≤ ds cap (hm cap (sh c KK1 i)) i := (nI_leI (by omega) (by omega)).mp c2
          simp only [cu, cun, if_neg c1, if_pos hAA] at e1 e2
          refine lv_iconst (v := 0) hx hb d_N_free_79 (by decide) ?_
          refine lv_istore (lv' := [(4, .int 0), (3, .int (nI i)), (2, .int (nI fr)), (0, .ref h), (1, .int (nI sl))]) hx hb d_N_free_80 hl (by decide) rfl (fun ls hl => ?_)
          refine lv_iload hx hb d_N_free_82 (lv_at hl 0 rfl) ?_
          refine lv_if_ne (tgt := 126) hx hb d_N_free_84 (by decide) (fun c9 => absurd (rfl) c9) (fun _ => ?_)
          refine lv_aload_n hx hb d_N_free_87 rfl (lv_at hl 3 rfl) ?_
          refine lv_aload_n hx hb d_N_free_88 rfl (lv_at hl 3 rfl) ?_
          refine va_get (D := D) (cl := classes) (ci := 2) (v := .int (nI c)) (C := "StepMapModel") (T := F_N) (N := 12) hx hb ht i_N hown hk.1 hP 0 rfl rfl 6 (by decide) (ht _ mw_1_188) (fun _ h9 => h9) rfl d_N_free_89 ?_
          refine lv_iload_n hx hb d_N_free_92 rfl (lv_at hl 2 rfl) ?_
          refine lv_aload_n hx hb d_N_free_93 rfl (lv_at hl 3 rfl) ?_
          refine va_get (D := D) (cl := classes) (ci := 2) (v := .ref q.2.1) (C := "StepMapModel") (T := F_N) (N := 12) hx hb ht i_N hown hk.1 hP 0 rfl rfl 3 (by decide) (ht _ mw_1_185) (fun _ h9 => h9) rfl d_N_free_94 ?_
          refine lv_aload_n hx hb d_N_free_97 rfl (lv_at hl 3 rfl) ?_
          refine lv_aload_n hx hb d_N_free_98 rfl (lv_at hl 3 rfl) ?_
          refine va_get (D := D) (cl := classes) (ci := 2) (v := .int (nI c)) (C := "StepMapModel") (T := F_N) (N := 12) hx hb ht i_N hown hk.1 hP 0 rfl rfl 6 (by decide) (ht _ mw_1_188) (fun _ h9 => h9) rfl d_N_free_99 ?_
          refine lv_iload_n hx hb d_N_free_102 rfl (lv_at hl 1 rfl) ?_
          refine xV_i (D := D) (k := 2) (ci := 2) (q := ("StepMapModel", F_N, 12)) (wr := []) (wb := fun u => (wN h q cA th hf (nI c) mv cq cnt v1 wk SS KK1 VV1 ZZ)) (rest := [.ref q.2.1, .int (nI fr), .int (nI c), .ref h]) ⟨hx, hb, hml, hown, ht⟩ (c_N_at l D cA h q th hf (nI c) mv cq cnt v1 wk SS KK1 VV1 ZZ c i) gv_N_37 (by decide +kernel) rfl ⟨Nat.le_of_ble_eq_true rfl, Nat.le_of_ble_eq_true rfl⟩ hk hP hD hS hA [0, 1, 2, 3, 4] [] [0, 1, 2, 3, 4] rfl rfl (fun _ => rfl) ⟨rfl, rfl, rfl⟩ (by decide) rfl rfl hl.1 rfl (Nat.le_of_ble_eq_true rfl) d_N_free_103 ⟨Nat.zero_le _, Nat.zero_le _⟩ (fun r u H locs hp hP hD hS => ?_)
          have hp : r = (nI (1024 * c + i)) := hp
          subst hp
          have hP : va_P D classes (wN h q cA th hf (nI c) mv cq cnt v1 wk SS KK1 VV1 ZZ) H := hP
          have hD : va_D A (wN h q cA th hf (nI c) mv cq cnt v1 wk SS KK1 VV1 ZZ) := hD
          refine x_ald hx hb hk hP 2 0 rfl rfl (i := (1024 * c + i)) (by omega) (by omega) d_N_free_106 ?_
          refine x_top (z := (sh c KK1 i)) ((sh_at KK1 hi4).symm) ?_
          refine lv_aload_n hx hb d_N_free_107 rfl (lv_at hl 3 rfl) ?_
          refine va_get (D := D) (cl := classes) (ci := 2) (v := .ref q.2.2.1) (C := "StepMapModel") (T := F_N) (N := 12) hx hb ht i_N hown hk.1 hP 0 rfl rfl 4 (by decide) (ht _ mw_1_186) (fun _ h9 => h9) rfl d_N_free_108 ?_
          refine lv_aload_n hx hb d_N_free_111 rfl (lv_at hl 3 rfl) ?_
          refine lv_aload_n hx hb d_N_free_112 rfl (lv_at hl 3 rfl) ?_
          refine va_get (D := D) (cl := classes) (ci := 2) (v := .int (nI c)) (C := "StepMapModel") (T := F_N) (N := 12) hx hb ht i_N hown hk.1 hP 0 rfl rfl 6 (by decide) (ht _ mw_1_188) (fun _ h9 => h9) rfl d_N_free_113 ?_
          refine lv_iload_n hx hb d_N_free_116 rfl (lv_at hl 1 rfl) ?_
          refine xV_i (D := D) (k := 2) (ci := 2) (q := ("StepMapModel", F_N, 12)) (wr := []) (wb := fun u => (wN h q cA th hf (nI c) mv cq cnt v1 wk SS KK1 VV1 ZZ)) (rest := [.ref q.2.2.1, .int (sh c KK1 i), .int (nI fr), .int (nI c), .ref h]) ⟨hx, hb, hml, hown, ht⟩ (c_N_at l D cA h q th hf (nI c) mv cq cnt v1 wk SS KK1 VV1 ZZ c i) gv_N_37 (by decide +kernel) rfl ⟨Nat.le_of_ble_eq_true rfl, Nat.le_of_ble_eq_true rfl⟩ hk hP hD hS hA [0, 1, 2, 3, 4] [] [0, 1, 2, 3, 4] rfl rfl (fun _ => rfl) ⟨rfl, rfl, rfl⟩ (by decide) rfl rfl hl.1 rfl (Nat.le_of_ble_eq_true rfl) d_N_free_117 ⟨Nat.zero_le _, Nat.zero_le _⟩ (fun r u H locs hp hP hD hS => ?_)
          have hp : r = (nI (1024 * c + i)) := hp
          subst hp
          have hP : va_P D classes (wN h q cA th hf (nI c) mv cq cnt v1 wk SS KK1 VV1 ZZ) H := hP
          have hD : va_D A (wN h q cA th hf (nI c) mv cq cnt v1 wk SS KK1 VV1 ZZ) := hD
          refine x_ald hx hb hk hP 3 0 rfl rfl (i := (1024 * c + i)) (by omega) (by omega) d_N_free_120 ?_
          refine x_top (z := (sh c VV1 i)) ((sh_at VV1 hi4).symm) ?_
          refine xV_v (D := D) (k := 4) (ci := 2) (q := ("StepMapModel", F_N, 12)) (wr := []) (wb := fun u => (wN h q cA th hf (nI c) mv cq cnt v1 wk (upd SS (1024 * c + fr) 1) (upd KK1 (1024 * c + fr) (sh c KK1 i)) (upd VV1 (1024 * c + fr) (sh c VV1 i)) ZZ)) (rest := []) ⟨hx, hb, hml, hown, ht⟩ (c_N_lay l D cA h q th hf (nI c) mv cq cnt v1 wk SS KK1 VV1 ZZ c fr (sh c KK1 i) (sh c VV1 i) hc2 hf4) gv_N_52 (by decide +kernel) rfl ⟨Nat.le_of_ble_eq_true rfl, Nat.le_of_ble_eq_true rfl⟩ hk hP hD hS hA [0, 1, 2, 3, 4] [] [0, 1, 2, 3, 4] rfl rfl (fun _ => rfl) ⟨rfl, rfl, rfl⟩ (by decide) rfl rfl hl.1 rfl (Nat.le_of_ble_eq_true rfl) d_N_free_121 ⟨Nat.zero_le _, Nat.zero_le _⟩ (fun u H locs hp hP hD hS => ?_)
          have hP : va_P D classes (wN h q cA th hf (nI c) mv cq cnt v1 wk (upd SS (1024 * c + fr) 1) (upd KK1 (1024 * c + fr) (sh c KK1 i)) (upd VV1 (1024 * c + fr) (sh c VV1 i)) ZZ) H := hP
          have hD : va_D A (wN h q cA th hf (nI c) mv cq cnt v1 wk (upd SS (1024 * c + fr) 1) (upd KK1 (1024 * c + fr) (sh c KK1 i)) (upd VV1 (1024 * c + fr) (sh c VV1 i)) ZZ) := hD
          rw [upd_self ((sh_at SS hf4).symm.trans hs1)] at hP hD
          have hP : va_P D classes (wN h q cA th hf (nI c) mv cq cnt v1 wk SS (upd KK1 (1024 * c + fr) (sh c KK1 i)) (upd VV1 (1024 * c + fr) (sh c VV1 i)) ZZ) H := hP
          have hD : va_D A (wN h q cA th hf (nI c) mv cq cnt v1 wk SS (upd KK1 (1024 * c + fr) (sh c KK1 i)) (upd VV1 (1024 * c + fr) (sh c VV1 i)) ZZ) := hD
          refine lv_iload_n hx hb d_N_free_124 rfl (lv_at hl 1 rfl) ?_
          refine lv_istore_n (lv' := [(2, .int (nI i)), (4, .int 0), (3, .int (nI i)), (0, .ref h), (1, .int (nI sl))]) hx hb d_N_free_125 rfl hl (by decide) rfl (fun ls hl => ?_)
          refine lv_aload_n hx hb d_N_free_126 rfl (lv_at hl 3 rfl) ?_
          refine lv_iload_n hx hb d_N_free_127 rfl (lv_at hl 2 rfl) ?_
          refine lv_aload_n hx hb d_N_free_128 rfl (lv_at hl 3 rfl) ?_
          refine va_get (D := D) (cl := classes) (ci := 2) (v := .int (nI c)) (C := "StepMapModel") (T := F_N) (N := 12) hx hb ht i_N hown hk.1 hP 0 rfl rfl 6 (by decide) (ht _ mw_1_188) (fun _ h9 => h9) rfl d_N_free_129 ?_
          refine xV_i (D := D) (k := 2) (ci := 2) (q := ("StepMapModel", F_N, 12)) (wr := []) (wb := fun u => (wN h q cA th hf (nI c) mv cq cnt v1 wk SS (upd KK1 (1024 * c + fr) (sh c KK1 i)) (upd VV1 (1024 * c + fr) (sh c VV1 i)) ZZ)) (rest := []) ⟨hx, hb, hml, hown, ht⟩ (c_N_behind l D cA h q th hf (nI c) mv cq cnt v1 wk SS (upd KK1 (1024 * c + fr) (sh c KK1 i)) (upd VV1 (1024 * c + fr) (sh c VV1 i)) ZZ i c cap hc hc2 hz hi) gv_N_40 (by decide +kernel) rfl ⟨Nat.le_of_ble_eq_true rfl, Nat.le_of_ble_eq_true rfl⟩ hk hP hD hS hA [0, 1, 2, 3, 4] [] [0, 1, 2, 3, 4] rfl rfl (fun _ => rfl) ⟨rfl, rfl, rfl⟩ (by decide) rfl rfl hl.1 rfl (Nat.le_of_ble_eq_true rfl) d_N_free_132 ⟨Nat.zero_le _, Nat.zero_le _⟩ (fun r u H locs hp hP hD hS => ?_)
          have hp : r = (nI (nx cap i)) := hp
          subst hp
          have hP : va_P D classes (wN h q cA th hf (nI c) mv cq cnt v1 wk SS (upd KK1 (1024 * c + fr) (sh c KK1 i)) (upd VV1 (1024 * c + fr) (sh c VV1 i)) ZZ) H := hP
          have hD : va_D A (wN h q cA th hf (nI c) mv cq cnt v1 wk SS (upd KK1 (1024 * c + fr) (sh c KK1 i)) (upd VV1 (1024 * c + fr) (sh c VV1 i)) ZZ) := hD
          refine lv_istore_n (lv' := [(3, .int (nI (nx cap i))), (2, .int (nI i)), (4, .int 0), (0, .ref h), (1, .int (nI sl))]) hx hb d_N_free_135 rfl hl (by decide) rfl (fun ls hl => ?_)
          refine lv_aload_n hx hb d_N_free_136 rfl (lv_at hl 3 rfl) ?_
          refine lv_dup hx hb d_N_free_137 rfl ?_
          refine va_get (D := D) (cl := classes) (ci := 2) (v := .int v1) (C := "StepMapModel") (T := F_N) (N := 12) hx hb ht i_N hown hk.1 hP 0 rfl rfl 10 (by decide) (ht _ mw_1_192) (fun _ h9 => h9) rfl d_N_free_138 ?_
          refine lv_iconst (v := 1) hx hb d_N_free_141 (by decide) ?_
          refine lv_iadd hx hb d_N_free_142 ?_
          refine va_put (D := D) (cl := classes) (ci := 2) (v := .int (v1 + 1)) (ty := .int) (C := "StepMapModel") (T := F_N) (N := 12) hx hb ht i_N tt_N tt_N_ok n_N hown hk.1 hP hD hS 0 rfl rfl 10 (by decide) (ht _ mw_1_192) (fun _ h9 => h9) rfl (by decide +kernel) rfl rfl (Nat.le_of_ble_eq_true rfl) d_N_free_143 (fun H locs hP hD hS => ?_)
          have hP : va_P D classes (wN h q cA th hf (nI c) mv cq cnt (v1 + 1) wk SS (upd KK1 (1024 * c + fr) (sh c KK1 i)) (upd VV1 (1024 * c + fr) (sh c VV1 i)) ZZ) H := hP
          have hD : va_D A (wN h q cA th hf (nI c) mv cq cnt (v1 + 1) wk SS (upd KK1 (1024 * c + fr) (sh c KK1 i)) (upd VV1 (1024 * c + fr) (sh c VV1 i)) ZZ) := hD
          refine lv_goto (tgt := 22) hx hb d_N_free_146 (by decide) ?_
          exact ih i (nx cap i) _ _ (v1 + 1) _ _ _ hi hi1 (nx_lt hc i) he hP hD hS (lv_sub hl [0, 1, 3, 4] rfl) (by rw [sh_upd_o _ _ hf4 hcc]; exact o1) (by rw [sh_upd_o _ _ hf4 hcc]; exact o2) (by rw [sh_upd _ _ hf4, sh_upd _ _ hf4]; exact e1) (by rw [← e2, nI_succ]; ac_rfl)
        · skip
          have hAA : ¬ ds cap fr i ≤ ds cap (hm cap (sh c KK1 i)) i := fun z => c2 (nI_le z (by omega))
          simp only [cu, cun, if_neg c1, if_neg hAA] at e1 e2
          refine lv_iconst (v := 1) hx hb d_N_free_75 (by decide) ?_
          refine lv_goto (tgt := 80) hx hb d_N_free_76 (by decide) ?_
          refine lv_istore (lv' := [(4, .int 1), (3, .int (nI i)), (2, .int (nI fr)), (0, .ref h), (1, .int (nI sl))]) hx hb d_N_free_80 hl (by decide) rfl (fun ls hl => ?_)
          refine lv_iload hx hb d_N_free_82 (lv_at hl 0 rfl) ?_
          refine lv_if_ne (tgt := 126) hx hb d_N_free_84 (by decide) (fun _ => ?_) (fun c9 => absurd c9 (by decide))
          refine lv_aload_n hx hb d_N_free_126 rfl (lv_at hl 3 rfl) ?_
          refine lv_iload_n hx hb d_N_free_127 rfl (lv_at hl 1 rfl) ?_
          refine lv_aload_n hx hb d_N_free_128 rfl (lv_at hl 3 rfl) ?_
          refine va_get (D := D) (cl := classes) (ci := 2) (v := .int (nI c)) (C := "StepMapModel") (T := F_N) (N := 12) hx hb ht i_N hown hk.1 hP 0 rfl rfl 6 (by decide) (ht _ mw_1_188) (fun _ h9 => h9) rfl d_N_free_129 ?_
          refine xV_i (D := D) (k := 2) (ci := 2) (q := ("StepMapModel", F_N, 12)) (wr := []) (wb := fun u => (wN h q cA th hf (nI c) mv cq cnt v1 wk SS KK1 VV1 ZZ)) (rest := []) ⟨hx, hb, hml, hown, ht⟩ (c_N_behind l D cA h q th hf (nI c) mv cq cnt v1 wk SS KK1 VV1 ZZ i c cap hc hc2 hz hi) gv_N_40 (by decide +kernel) rfl ⟨Nat.le_of_ble_eq_true rfl, Nat.le_of_ble_eq_true rfl⟩ hk hP hD hS hA [0, 1, 2, 3, 4] [] [0, 1, 2, 3, 4] rfl rfl (fun _ => rfl) ⟨rfl, rfl, rfl⟩ (by decide) rfl rfl hl.1 rfl (Nat.le_of_ble_eq_true rfl) d_N_free_132 ⟨Nat.zero_le _, Nat.zero_le _⟩ (fun r u H locs hp hP hD hS => ?_)
          have hp : r = (nI (nx cap i)) := hp
          subst hp
          have hP : va_P D classes (wN h q cA th hf (nI c) mv cq cnt v1 wk SS KK1 VV1 ZZ) H := hP
          have hD : va_D A (wN h q cA th hf (nI c) mv cq cnt v1 wk SS KK1 VV1 ZZ) := hD
          refine lv_istore_n (lv' := [(3, .int (nI (nx cap i))), (4, .int 1), (2, .int (nI fr)), (0, .ref h), (1, .int (nI sl))]) hx hb d_N_free_135 rfl hl (by decide) rfl (fun ls hl => ?_)
          refine lv_aload_n hx hb d_N_free_136 rfl (lv_at hl 3 rfl) ?_
          refine lv_dup hx hb d_N_free_137 rfl ?_
          refine va_get (D := D) (cl := classes) (ci := 2) (v := .int v1) (C := "StepMapModel") (T := F_N) (N := 12) hx hb ht i_N hown hk.1 hP 0 rfl rfl 10 (by decide) (ht _ mw_1_192) (fun _ h9 => h9) rfl d_N_free_138 ?_
          refine lv_iconst (v := 1) hx hb d_N_free_141 (by decide) ?_
          refine lv_iadd hx hb d_N_free_142 ?_
          refine va_put (D := D) (cl := classes) (ci := 2) (v := .int (v1 + 1)) (ty := .int) (C := "StepMapModel") (T := F_N) (N := 12) hx hb ht i_N tt_N tt_N_ok n_N hown hk.1 hP hD hS 0 rfl rfl 10 (by decide) (ht _ mw_1_192) (fun _ h9 => h9) rfl (by decide +kernel) rfl rfl (Nat.le_of_ble_eq_true rfl) d_N_free_143 (fun H locs hP hD hS => ?_)
          have hP : va_P D classes (wN h q cA th hf (nI c) mv cq cnt (v1 + 1) wk SS KK1 VV1 ZZ) H := hP
          have hD : va_D A (wN h q cA th hf (nI c) mv cq cnt (v1 + 1) wk SS KK1 VV1 ZZ) := hD
          refine lv_goto (tgt := 22) hx hb d_N_free_146 (by decide) ?_
          exact ih fr (nx cap i) _ _ (v1 + 1) _ _ _ hfr hs1 (nx_lt hc i) he hP hD hS (lv_sub hl [0, 2, 3, 4] rfl) o1 o2 e1 (by rw [← e2, nI_succ]; ac_rfl)
  refine lv_iload_n hx hb d_N_free_0 rfl (lv_at hl 1 rfl) ?_
  refine lv_istore_n (lv' := [(2, .int (nI sl)), (0, .ref h), (1, .int (nI sl))]) hx hb d_N_free_1 rfl hl (by decide) rfl (fun ls hl => ?_)
  refine lv_aload_n hx hb d_N_free_2 rfl (lv_at hl 1 rfl) ?_
  refine lv_iload_n hx hb d_N_free_3 rfl (lv_at hl 2 rfl) ?_
  refine lv_aload_n hx hb d_N_free_4 rfl (lv_at hl 1 rfl) ?_
  refine va_get (D := D) (cl := classes) (ci := 2) (v := .int (nI c)) (C := "StepMapModel") (T := F_N) (N := 12) hx hb ht i_N hown hk.1 hP 0 rfl rfl 6 (by decide) (ht _ mw_1_188) (fun _ h9 => h9) rfl d_N_free_5 ?_
  refine xV_i (D := D) (k := 2) (ci := 2) (q := ("StepMapModel", F_N, 12)) (wr := []) (wb := fun u => (wN h q cA th hf (nI c) mv cq cnt vi wk SS KK VV ZZ)) (rest := []) ⟨hx, hb, hml, hown, ht⟩ (c_N_behind l D cA h q th hf (nI c) mv cq cnt vi wk SS KK VV ZZ sl c cap hc hc2 hz hs0) gv_N_40 (by decide +kernel) rfl ⟨Nat.le_of_ble_eq_true rfl, Nat.le_of_ble_eq_true rfl⟩ hk hP hD hS hA [0, 1, 2, 3, 4] [] [0, 1, 2, 3, 4] rfl rfl (fun _ => rfl) ⟨rfl, rfl, rfl⟩ (by decide) rfl rfl hl.1 rfl (Nat.le_of_ble_eq_true rfl) d_N_free_8 ⟨Nat.zero_le _, Nat.zero_le _⟩ (fun r u H locs hp hP hD hS => ?_)
  have hp : r = (nI (nx cap sl)) := hp
  subst hp
  have hP : va_P D classes (wN h q cA th hf (nI c) mv cq cnt vi wk SS KK VV ZZ) H := hP
  have hD : va_D A (wN h q cA th hf (nI c) mv cq cnt vi wk SS KK VV ZZ) := hD
  refine lv_istore_n (lv' := [(3, .int (nI (nx cap sl))), (2, .int (nI sl)), (0, .ref h), (1, .int (nI sl))]) hx hb d_N_free_11 rfl hl (by decide) rfl (fun ls hl => ?_)
  refine lv_aload_n hx hb d_N_free_12 rfl (lv_at hl 2 rfl) ?_
  refine lv_dup hx hb d_N_free_13 rfl ?_
  refine va_get (D := D) (cl := classes) (ci := 2) (v := .int vi) (C := "StepMapModel") (T := F_N) (N := 12) hx hb ht i_N hown hk.1 hP 0 rfl rfl 10 (by decide) (ht _ mw_1_192) (fun _ h9 => h9) rfl d_N_free_14 ?_
  refine lv_iconst (v := 1) hx hb d_N_free_17 (by decide) ?_
  refine lv_iadd hx hb d_N_free_18 ?_
  refine va_put (D := D) (cl := classes) (ci := 2) (v := .int (vi + 1)) (ty := .int) (C := "StepMapModel") (T := F_N) (N := 12) hx hb ht i_N tt_N tt_N_ok n_N hown hk.1 hP hD hS 0 rfl rfl 10 (by decide) (ht _ mw_1_192) (fun _ h9 => h9) rfl (by decide +kernel) rfl rfl (Nat.le_of_ble_eq_true rfl) d_N_free_19 (fun H locs hP hD hS => ?_)
  have hP : va_P D classes (wN h q cA th hf (nI c) mv cq cnt (vi + 1) wk SS KK VV ZZ) H := hP
  have hD : va_D A (wN h q cA th hf (nI c) mv cq cnt (vi + 1) wk SS KK VV ZZ) := hD
  exact loop cap sl (nx cap sl) KK VV (vi + 1) _ _ _ hs0 h1 (nx_lt hc sl) hez hP hD hS hl rfl rfl rfl (by show _ = vi + nI (cun cap (sh c SS) cap (nx cap sl) + 1); rw [nI_succ]; ac_rfl)
set_option maxHeartbeats 4000000 in
set_option maxRecDepth 100000 in
theorem c_N_moveSome (l : Launch) (D : va_G) (cA : ClassId) (h : Nat) (q : Ad) (th hf : Int32) (c : Nat) (mv cnt vi wk : Int32) (SS KK VV ZZ : Nat → Int32) (fc oc cur : Nat) (hc : pw fc) (hc2 : c < 2) (hz : ZZ c = nI fc) (hzo : ZZ (1 - c) = nI oc) (hcu : cur < oc) (ho : oc ≤ 1024) (hok : mok fc (mvc oc cur) cur (tb c SS KK VV) (tb (1 - c) SS KK VV)) : Mv l D [(cA, .int)] y_N_moveSome b_N_moveSome 5 2 47 0 0 [.ref h] (wN h q cA th hf (nI c) mv (nI cur) cnt vi wk SS KK VV ZZ) (fun (u : (Nat → Int32) × (Nat → Int32) × (Nat → Int32)) => tb c u.1 u.2.1 u.2.2 = (mvn fc (mvc oc cur) cur (tb c SS KK VV) (tb (1 - c) SS KK VV)).1 ∧ tb (1 - c) u.1 u.2.1 u.2.2 = (mvn fc (mvc oc cur) cur (tb c SS KK VV) (tb (1 - c) SS KK VV)).2.1) (fun u => (wN h q cA th hf (nI c) (if cur + mvc oc cur < oc then 1 else 0) (nI (cur + mvc oc cur)) cnt (vi + nI ((mvn fc (mvc oc cur) cur (tb c SS KK VV) (tb (1 - c) SS KK VV)).2.2 + mvc oc cur)) wk u.1 u.2.1 u.2.2 ZZ)) := by
  refine mv_start (own := "StepMapModel") (by decide +kernel) rfl (Nat.le_of_ble_eq_true rfl) ?_
  intro p e s m args below meth cd ls A Q hx hb hml hin hown ht hk hP hD hA hl hret
  have hS : va_S A s.heap s.heap [] := va_S.rf
  have hl : lv_has ls 5 [(0, .ref h)] := hl
  have hle := hc.le
  have hcc : ¬ c = 1 - c := by omega
  have hcc2 : ¬ 1 - c = c := by omega
  have hmv : mvc oc cur ≤ 4 ∧ cur + mvc oc cur ≤ oc ∧ (mvc oc cur < 4 → cur + mvc oc cur = oc) := by unfold mvc; omega
  have fin : ∀ (S1 K1 V1 : Nat → Int32) (H : Heap) (locs : List Loc) (ls : Array Slot), va_P D classes (wN h q cA th hf (nI c) mv (nI (cur + mvc oc cur)) cnt (vi + nI ((mvn fc (mvc oc cur) cur (tb c SS KK VV) (tb (1 - c) SS KK VV)).2.2 + mvc oc cur)) wk S1 K1 V1 ZZ) H → va_D A (wN h q cA th hf (nI c) mv (nI (cur + mvc oc cur)) cnt (vi + nI ((mvn fc (mvc oc cur) cur (tb c SS KK VV) (tb (1 - c) SS KK VV)).2.2 + mvc oc cur)) wk S1 K1 V1 ZZ) → va_S A s.heap H locs → lv_has ls 5 [(1, .int (nI (1 - c))), (0, .ref h)] → tb c S1 K1 V1 = (mvn fc (mvc oc cur) cur (tb c SS KK VV) (tb (1 - c) SS KK VV)).1 → tb (1 - c) S1 K1 V1 = (mvn fc (mvc oc cur) cur (tb c SS KK VV) (tb (1 - c) SS KK VV)).2.1 → W p l e { frames := 2, cells := 0, slots := 0, locals := 47 } s m args below meth cd H locs 0 0 Q (F0 m 120 ls []) := by
    intro S1 K1 V1 H locs ls hP hD hS hl e1 e2
    refine lv_aload_n hx hb d_N_moveSome_120 rfl (lv_at hl 1 rfl) ?_
    refine lv_aload_n hx hb d_N_moveSome_121 rfl (lv_at hl 1 rfl) ?_
    refine va_get (D := D) (cl := classes) (ci := 2) (v := .int (nI (cur + mvc oc cur))) (C := "StepMapModel") (T := F_N) (N := 12) hx hb ht i_N hown hk.1 hP 0 rfl rfl 8 (by decide) (ht _ mw_1_190) (fun _ h9 => h9) rfl d_N_moveSome_122 ?_
    refine lv_aload_n hx hb d_N_moveSome_125 rfl (lv_at hl 1 rfl) ?_
    refine va_get (D := D) (cl := classes) (ci := 2) (v := .ref q.2.2.2) (C := "StepMapModel") (T := F_N) (N := 12) hx hb ht i_N hown hk.1 hP 0 rfl rfl 5 (by decide) (ht _ mw_1_187) (fun _ h9 => h9) rfl d_N_moveSome_126 ?_
    refine lv_iload_n hx hb d_N_moveSome_129 rfl (lv_at hl 0 rfl) ?_
    refine x_ald hx hb hk hP 4 0 rfl rfl (i := (1 - c)) (by omega) (by omega) d_N_moveSome_130 ?_
    refine x_top (z := (nI oc)) (hzo) ?_
    refine lv_icmp_ge (tgt := 138) hx hb d_N_moveSome_131 (by decide) (fun c1 => ?_) (fun c1 => ?_)
    · skip
      have q1 : ¬ cur + mvc oc cur < oc := fun z => nI_ge z (by omega) c1
      have e3 : (if cur + mvc oc cur < oc then (1 : Int32) else 0) = 0 := if00 q1
      refine lv_iconst (v := 0) hx hb d_N_moveSome_138 (by decide) ?_
      refine va_put (D := D) (cl := classes) (ci := 2) (v := .int 0) (ty := .boolean) (C := "StepMapModel") (T := F_N) (N := 12) hx hb ht i_N tt_N tt_N_ok n_N hown hk.1 hP hD hS 0 rfl rfl 7 (by decide) (ht _ mw_1_189) (fun _ h9 => h9) rfl (by decide +kernel) rfl rfl (Nat.le_of_ble_eq_true rfl) d_N_moveSome_139 (fun H locs hP hD hS => ?_)
      have hP : va_P D classes (wN h q cA th hf (nI c) 0 (nI (cur + mvc oc cur)) cnt (vi + nI ((mvn fc (mvc oc cur) cur (tb c SS KK VV) (tb (1 - c) SS KK VV)).2.2 + mvc oc cur)) wk S1 K1 V1 ZZ) H := hP
      have hD : va_D A (wN h q cA th hf (nI c) 0 (nI (cur + mvc oc cur)) cnt (vi + nI ((mvn fc (mvc oc cur) cur (tb c SS KK VV) (tb (1 - c) SS KK VV)).2.2 + mvc oc cur)) wk S1 K1 V1 ZZ) := hD
      rw [← e3] at hP hD
      exact hret _ _ _ _ _ (S1, K1, V1) d_N_moveSome_142 hP hD hS (⟨e1, e2⟩) rfl
    · skip
      have q1 : cur + mvc oc cur < oc := Nat.lt_of_not_le fun z => c1 (nI_le z (by omega))
      have e3 : (if cur + mvc oc cur < oc then (1 : Int32) else 0) = 1 := if10 q1
      refine lv_iconst (v := 1) hx hb d_N_moveSome_134 (by decide) ?_
      refine lv_goto (tgt := 139) hx hb d_N_moveSome_135 (by decide) ?_
      refine va_put (D := D) (cl := classes) (ci := 2) (v := .int 1) (ty := .boolean) (C := "StepMapModel") (T := F_N) (N := 12) hx hb ht i_N tt_N tt_N_ok n_N hown hk.1 hP hD hS 0 rfl rfl 7 (by decide) (ht _ mw_1_189) (fun _ h9 => h9) rfl (by decide +kernel) rfl rfl (Nat.le_of_ble_eq_true rfl) d_N_moveSome_139 (fun H locs hP hD hS => ?_)
      have hP : va_P D classes (wN h q cA th hf (nI c) 1 (nI (cur + mvc oc cur)) cnt (vi + nI ((mvn fc (mvc oc cur) cur (tb c SS KK VV) (tb (1 - c) SS KK VV)).2.2 + mvc oc cur)) wk S1 K1 V1 ZZ) H := hP
      have hD : va_D A (wN h q cA th hf (nI c) 1 (nI (cur + mvc oc cur)) cnt (vi + nI ((mvn fc (mvc oc cur) cur (tb c SS KK VV) (tb (1 - c) SS KK VV)).2.2 + mvc oc cur)) wk S1 K1 V1 ZZ) := hD
      rw [← e3] at hP hD
      exact hret _ _ _ _ _ (S1, K1, V1) d_N_moveSome_142 hP hD hS (⟨e1, e2⟩) rfl
  have loop : ∀ (f tu : Nat) (S1 K1 V1 : Nat → Int32) (v1 : Int32) (H : Heap) (locs : List Loc) (ls : Array Slot), tu + f = mvc oc cur → mok fc f (cur + tu) (tb c S1 K1 V1) (tb (1 - c) S1 K1 V1) → va_P D classes (wN h q cA th hf (nI c) mv (nI (cur + tu)) cnt v1 wk S1 K1 V1 ZZ) H → va_D A (wN h q cA th hf (nI c) mv (nI (cur + tu)) cnt v1 wk S1 K1 V1 ZZ) → va_S A s.heap H locs → lv_has ls 5 [(2, .int (nI tu)), (1, .int (nI (1 - c))), (0, .ref h)] → (mvn fc f (cur + tu) (tb c S1 K1 V1) (tb (1 - c) S1 K1 V1)).1 = (mvn fc (mvc oc cur) cur (tb c SS KK VV) (tb (1 - c) SS KK VV)).1 → (mvn fc f (cur + tu) (tb c S1 K1 V1) (tb (1 - c) S1 K1 V1)).2.1 = (mvn fc (mvc oc cur) cur (tb c SS KK VV) (tb (1 - c) SS KK VV)).2.1 → v1 + nI ((mvn fc f (cur + tu) (tb c S1 K1 V1) (tb (1 - c) S1 K1 V1)).2.2 + f) = vi + nI ((mvn fc (mvc oc cur) cur (tb c SS KK VV) (tb (1 - c) SS KK VV)).2.2 + mvc oc cur) → W p l e { frames := 2, cells := 0, slots := 0, locals := 47 } s m args below meth cd H locs 0 0 Q (F0 m 9 ls []) := by
    intro f
    induction f with
    | zero =>
      intro tu S1 K1 V1 v1 H locs ls htu hm hP hD hS hl e1 e2 e3
      have htu : tu = mvc oc cur := htu
      have e3 : v1 = vi + nI ((mvn fc (mvc oc cur) cur (tb c SS KK VV) (tb (1 - c) SS KK VV)).2.2 + mvc oc cur) := by rw [← e3]; show v1 = v1 + nI 0; rw [nI_0, ia0]
      have hfin := fin S1 K1 V1 H locs ls (by rw [← e3, ← htu]; exact hP) (by rw [← e3, ← htu]; exact hD) hS (lv_sub hl [1, 2] rfl) e1 e2
      refine lv_iload_n hx hb d_N_moveSome_9 rfl (lv_at hl 0 rfl) ?_
      refine lv_iconst (v := 4) hx hb d_N_moveSome_10 (by decide) ?_
      by_cases h4 : tu < 4
      · skip
        refine lv_icmp_ge (tgt := 120) hx hb d_N_moveSome_11 (by decide) (fun c9 => absurd c9 (nI_ge h4 (by decide))) (fun _ => ?_)
        refine lv_aload_n hx hb d_N_moveSome_14 rfl (lv_at hl 2 rfl) ?_
        refine va_get (D := D) (cl := classes) (ci := 2) (v := .int (nI (cur + tu))) (C := "StepMapModel") (T := F_N) (N := 12) hx hb ht i_N hown hk.1 hP 0 rfl rfl 8 (by decide) (ht _ mw_1_190) (fun _ h9 => h9) rfl d_N_moveSome_15 ?_
        refine lv_aload_n hx hb d_N_moveSome_18 rfl (lv_at hl 2 rfl) ?_
        refine va_get (D := D) (cl := classes) (ci := 2) (v := .ref q.2.2.2) (C := "StepMapModel") (T := F_N) (N := 12) hx hb ht i_N hown hk.1 hP 0 rfl rfl 5 (by decide) (ht _ mw_1_187) (fun _ h9 => h9) rfl d_N_moveSome_19 ?_
        refine lv_iload_n hx hb d_N_moveSome_22 rfl (lv_at hl 1 rfl) ?_
        refine x_ald hx hb hk hP 4 0 rfl rfl (i := (1 - c)) (by omega) (by omega) d_N_moveSome_23 ?_
        refine x_top (z := (nI oc)) (hzo) ?_
        refine lv_icmp_ge (tgt := 120) hx hb d_N_moveSome_24 (by decide) (fun _ => ?_) (fun c9 => absurd (nI_le (by omega) (by omega)) c9)
        exact hfin
      · skip
        refine lv_icmp_ge (tgt := 120) hx hb d_N_moveSome_11 (by decide) (fun _ => ?_) (fun c9 => absurd (nI_le (a := 4) (by omega) (by omega)) c9)
        exact hfin
    | succ f ih =>
      intro tu S1 K1 V1 v1 H locs ls htu hm hP hD hS hl e1 e2 e3
      obtain ⟨hm1, hm2⟩ := hm
      have hj : cur + tu < 1024 := by omega
      refine lv_iload_n hx hb d_N_moveSome_9 rfl (lv_at hl 0 rfl) ?_
      refine lv_iconst (v := 4) hx hb d_N_moveSome_10 (by decide) ?_
      refine lv_icmp_ge (tgt := 120) hx hb d_N_moveSome_11 (by decide) (fun c9 => absurd c9 (nI_ge (show tu < 4 by omega) (by decide))) (fun _ => ?_)
      refine lv_aload_n hx hb d_N_moveSome_14 rfl (lv_at hl 2 rfl) ?_
      refine va_get (D := D) (cl := classes) (ci := 2) (v := .int (nI (cur + tu))) (C := "StepMapModel") (T := F_N) (N := 12) hx hb ht i_N hown hk.1 hP 0 rfl rfl 8 (by decide) (ht _ mw_1_190) (fun _ h9 => h9) rfl d_N_moveSome_15 ?_
      refine lv_aload_n hx hb d_N_moveSome_18 rfl (lv_at hl 2 rfl) ?_
      refine va_get (D := D) (cl := classes) (ci := 2) (v := .ref q.2.2.2) (C := "StepMapModel") (T := F_N) (N := 12) hx hb ht i_N hown hk.1 hP 0 rfl rfl 5 (by decide) (ht _ mw_1_187) (fun _ h9 => h9) rfl d_N_moveSome_19 ?_
      refine lv_iload_n hx hb d_N_moveSome_22 rfl (lv_at hl 1 rfl) ?_
      refine x_ald hx hb hk hP 4 0 rfl rfl (i := (1 - c)) (by omega) (by omega) d_N_moveSome_23 ?_
      refine x_top (z := (nI oc)) (hzo) ?_
      refine lv_icmp_ge (tgt := 120) hx hb d_N_moveSome_24 (by decide) (fun c9 => absurd c9 (nI_ge (by omega) (by omega))) (fun _ => ?_)
      refine lv_aload_n hx hb d_N_moveSome_27 rfl (lv_at hl 2 rfl) ?_
      refine lv_dup hx hb d_N_moveSome_28 rfl ?_
      refine va_get (D := D) (cl := classes) (ci := 2) (v := .int v1) (C := "StepMapModel") (T := F_N) (N := 12) hx hb ht i_N hown hk.1 hP 0 rfl rfl 10 (by decide) (ht _ mw_1_192) (fun _ h9 => h9) rfl d_N_moveSome_29 ?_
      refine lv_iconst (v := 1) hx hb d_N_moveSome_32 (by decide) ?_
      refine lv_iadd hx hb d_N_moveSome_33 ?_
      refine va_put (D := D) (cl := classes) (ci := 2) (v := .int (v1 + 1)) (ty := .int) (C := "StepMapModel") (T := F_N) (N := 12) hx hb ht i_N tt_N tt_N_ok n_N hown hk.1 hP hD hS 0 rfl rfl 10 (by decide) (ht _ mw_1_192) (fun _ h9 => h9) rfl (by decide +kernel) rfl rfl (Nat.le_of_ble_eq_true rfl) d_N_moveSome_34 (fun H locs hP hD hS => ?_)
      have hP : va_P D classes (wN h q cA th hf (nI c) mv (nI (cur + tu)) cnt (v1 + 1) wk S1 K1 V1 ZZ) H := hP
      have hD : va_D A (wN h q cA th hf (nI c) mv (nI (cur + tu)) cnt (v1 + 1) wk S1 K1 V1 ZZ) := hD
      refine lv_aload_n hx hb d_N_moveSome_37 rfl (lv_at hl 2 rfl) ?_
      refine lv_iload_n hx hb d_N_moveSome_38 rfl (lv_at hl 1 rfl) ?_
      refine lv_aload_n hx hb d_N_moveSome_39 rfl (lv_at hl 2 rfl) ?_
      refine va_get (D := D) (cl := classes) (ci := 2) (v := .int (nI (cur + tu))) (C := "StepMapModel") (T := F_N) (N := 12) hx hb ht i_N hown hk.1 hP 0 rfl rfl 8 (by decide) (ht _ mw_1_190) (fun _ h9 => h9) rfl d_N_moveSome_40 ?_
      refine xV_i (D := D) (k := 2) (ci := 2) (q := ("StepMapModel", F_N, 12)) (wr := []) (wb := fun u => (wN h q cA th hf (nI c) mv (nI (cur + tu)) cnt (v1 + 1) wk S1 K1 V1 ZZ)) (rest := []) ⟨hx, hb, hml, hown, ht⟩ (c_N_at l D cA h q th hf (nI c) mv (nI (cur + tu)) cnt (v1 + 1) wk S1 K1 V1 ZZ (1 - c) (cur + tu)) gv_N_37 (by decide +kernel) rfl ⟨Nat.le_of_ble_eq_true rfl, Nat.le_of_ble_eq_true rfl⟩ hk hP hD hS hA [0, 1, 2, 3, 4] [] [0, 1, 2, 3, 4] rfl rfl (fun _ => rfl) ⟨rfl, rfl, rfl⟩ (by decide) rfl rfl hl.1 rfl (Nat.le_of_ble_eq_true rfl) d_N_moveSome_43 ⟨Nat.zero_le _, Nat.zero_le _⟩ (fun r u H locs hp hP hD hS => ?_)
      have hp : r = (nI (1024 * (1 - c) + (cur + tu))) := hp
      subst hp
      have hP : va_P D classes (wN h q cA th hf (nI c) mv (nI (cur + tu)) cnt (v1 + 1) wk S1 K1 V1 ZZ) H := hP
      have hD : va_D A (wN h q cA th hf (nI c) mv (nI (cur + tu)) cnt (v1 + 1) wk S1 K1 V1 ZZ) := hD
      refine lv_istore_n (lv' := [(3, .int (nI (1024 * (1 - c) + (cur + tu)))), (2, .int (nI tu)), (1, .int (nI (1 - c))), (0, .ref h)]) hx hb d_N_moveSome_46 rfl hl (by decide) rfl (fun ls hl => ?_)
      refine lv_aload_n hx hb d_N_moveSome_47 rfl (lv_at hl 3 rfl) ?_
      refine va_get (D := D) (cl := classes) (ci := 2) (v := .ref q.1) (C := "StepMapModel") (T := F_N) (N := 12) hx hb ht i_N hown hk.1 hP 0 rfl rfl 2 (by decide) (ht _ mw_1_184) (fun _ h9 => h9) rfl d_N_moveSome_48 ?_
      refine lv_iload_n hx hb d_N_moveSome_51 rfl (lv_at hl 0 rfl) ?_
      refine x_ald hx hb hk hP 1 0 rfl rfl (i := (1024 * (1 - c) + (cur + tu))) (by omega) (by omega) d_N_moveSome_52 ?_
      refine x_top (z := (sh (1 - c) S1 (cur + tu))) ((sh_at S1 hj).symm) ?_
      refine lv_iconst (v := 1) hx hb d_N_moveSome_53 (by decide) ?_
      simp only [mvn] at e1 e2 e3
      refine lv_icmp_ne (tgt := 104) hx hb d_N_moveSome_54 (by decide) (fun c1 => ?_) (fun c1 => ?_)
      · skip
        have em : mv1 fc (tb c S1 K1 V1) (tb (1 - c) S1 K1 V1) (cur + tu) = ((tb c S1 K1 V1), (tb (1 - c) S1 K1 V1), 0) := if_neg c1
        rw [em] at hm2 e1 e2 e3
        refine lv_aload_n hx hb d_N_moveSome_104 rfl (lv_at hl 3 rfl) ?_
        refine lv_dup hx hb d_N_moveSome_105 rfl ?_
        refine va_get (D := D) (cl := classes) (ci := 2) (v := .int (nI (cur + tu))) (C := "StepMapModel") (T := F_N) (N := 12) hx hb ht i_N hown hk.1 hP 0 rfl rfl 8 (by decide) (ht _ mw_1_190) (fun _ h9 => h9) rfl d_N_moveSome_106 ?_
        refine lv_iconst (v := 1) hx hb d_N_moveSome_109 (by decide) ?_
        refine lv_iadd hx hb d_N_moveSome_110 ?_
        refine x_top (z := (nI (cur + (tu + 1)))) (nI_1 (cur + tu)) ?_
        refine va_put (D := D) (cl := classes) (ci := 2) (v := .int (nI (cur + (tu + 1)))) (ty := .int) (C := "StepMapModel") (T := F_N) (N := 12) hx hb ht i_N tt_N tt_N_ok n_N hown hk.1 hP hD hS 0 rfl rfl 8 (by decide) (ht _ mw_1_190) (fun _ h9 => h9) rfl (by decide +kernel) rfl rfl (Nat.le_of_ble_eq_true rfl) d_N_moveSome_111 (fun H locs hP hD hS => ?_)
        have hP : va_P D classes (wN h q cA th hf (nI c) mv (nI (cur + (tu + 1))) cnt (v1 + 1) wk S1 K1 V1 ZZ) H := hP
        have hD : va_D A (wN h q cA th hf (nI c) mv (nI (cur + (tu + 1))) cnt (v1 + 1) wk S1 K1 V1 ZZ) := hD
        refine lv_iinc (v := (nI (tu + 1))) (lv' := [(2, .int (nI (tu + 1))), (3, .int (nI (1024 * (1 - c) + (cur + tu)))), (1, .int (nI (1 - c))), (0, .ref h)]) hx hb d_N_moveSome_114 hl (k := 1) rfl (nI_1 tu) (by decide) rfl (fun ls hl => ?_)
        refine lv_goto (tgt := 9) hx hb d_N_moveSome_117 (by decide) ?_
        exact ih (tu + 1) S1 K1 V1 (v1 + 1) _ _ _ (by omega) hm2 hP hD hS (lv_sub hl [0, 2, 3] rfl) e1 e2 (by rw [← e3]; exact vis0 _ _ _)
      · skip
        obtain ⟨hfo, hz0⟩ := hm1 c1
        have hfo : fok fc (tb c S1 K1 V1) (sh (1 - c) K1 (cur + tu)) := hfo
        have hz0 : sh c S1 (fsl fc (tb c S1 K1 V1) (sh (1 - c) K1 (cur + tu))) = 0 := hz0
        have hsl := (fsl_spec hc hfo).1
        have hsl4 : (fsl fc (tb c S1 K1 V1) (sh (1 - c) K1 (cur + tu))) < 1024 := by omega
        have em : mv1 fc (tb c S1 K1 V1) (tb (1 - c) S1 K1 V1) (cur + tu) = (tput (tb c S1 K1 V1) (fsl fc (tb c S1 K1 V1) (sh (1 - c) K1 (cur + tu))) (sh (1 - c) K1 (cur + tu)) (sh (1 - c) V1 (cur + tu)), (sh (1 - c) K1, sh (1 - c) V1, upd (sh (1 - c) S1) (cur + tu) 2), fct fc (tb c S1 K1 V1) (sh (1 - c) K1 (cur + tu))) := if_pos c1
        rw [em] at hm2 e1 e2 e3
        refine lv_aload_n hx hb d_N_moveSome_57 rfl (lv_at hl 3 rfl) ?_
        refine lv_aload_n hx hb d_N_moveSome_58 rfl (lv_at hl 3 rfl) ?_
        refine va_get (D := D) (cl := classes) (ci := 2) (v := .ref q.2.1) (C := "StepMapModel") (T := F_N) (N := 12) hx hb ht i_N hown hk.1 hP 0 rfl rfl 3 (by decide) (ht _ mw_1_185) (fun _ h9 => h9) rfl d_N_moveSome_59 ?_
        refine lv_iload_n hx hb d_N_moveSome_62 rfl (lv_at hl 0 rfl) ?_
        refine x_ald hx hb hk hP 2 0 rfl rfl (i := (1024 * (1 - c) + (cur + tu))) (by omega) (by omega) d_N_moveSome_63 ?_
        refine x_top (z := (sh (1 - c) K1 (cur + tu))) ((sh_at K1 hj).symm) ?_
        refine lv_aload_n hx hb d_N_moveSome_64 rfl (lv_at hl 3 rfl) ?_
        refine va_get (D := D) (cl := classes) (ci := 2) (v := .int (nI c)) (C := "StepMapModel") (T := F_N) (N := 12) hx hb ht i_N hown hk.1 hP 0 rfl rfl 6 (by decide) (ht _ mw_1_188) (fun _ h9 => h9) rfl d_N_moveSome_65 ?_
        refine xV_i (D := D) (k := 2) (ci := 2) (q := ("StepMapModel", F_N, 12)) (wr := []) (wb := fun u => (wN h q cA th hf (nI c) mv (nI (cur + tu)) cnt ((v1 + 1) + nI (fct fc (tb c S1 K1 V1) (sh (1 - c) K1 (cur + tu)))) wk S1 K1 V1 ZZ)) (rest := []) ⟨hx, hb, hml, hown, ht⟩ (c_N_look l D cA h q th hf (nI c) mv (nI (cur + tu)) cnt (v1 + 1) wk S1 K1 V1 ZZ (sh (1 - c) K1 (cur + tu)) c fc hc hc2 hz hfo) gv_N_49 (by decide +kernel) rfl ⟨Nat.le_of_ble_eq_true rfl, Nat.le_of_ble_eq_true rfl⟩ hk hP hD hS hA [0, 1, 2, 3, 4] [] [0, 1, 2, 3, 4] rfl rfl (fun _ => rfl) ⟨rfl, rfl, rfl⟩ (by decide) rfl rfl hl.1 rfl (Nat.le_of_ble_eq_true rfl) d_N_moveSome_68 ⟨Nat.zero_le _, Nat.zero_le _⟩ (fun r u H locs hp hP hD hS => ?_)
        have hp : r = (lookA fc (tb c S1 K1 V1) (sh (1 - c) K1 (cur + tu))) := hp
        subst hp
        have hP : va_P D classes (wN h q cA th hf (nI c) mv (nI (cur + tu)) cnt ((v1 + 1) + nI (fct fc (tb c S1 K1 V1) (sh (1 - c) K1 (cur + tu)))) wk S1 K1 V1 ZZ) H := hP
        have hD : va_D A (wN h q cA th hf (nI c) mv (nI (cur + tu)) cnt ((v1 + 1) + nI (fct fc (tb c S1 K1 V1) (sh (1 - c) K1 (cur + tu)))) wk S1 K1 V1 ZZ) := hD
        refine x_top (z := (-1 - nI (fsl fc (tb c S1 K1 V1) (sh (1 - c) K1 (cur + tu))))) (if_neg (by show ¬ sh c S1 (fsl fc (tb c S1 K1 V1) (sh (1 - c) K1 (cur + tu))) = 1; rw [hz0]; decide)) ?_
        refine lv_istore (lv' := [(4, .int (-1 - nI (fsl fc (tb c S1 K1 V1) (sh (1 - c) K1 (cur + tu))))), (3, .int (nI (1024 * (1 - c) + (cur + tu)))), (2, .int (nI tu)), (1, .int (nI (1 - c))), (0, .ref h)]) hx hb d_N_moveSome_71 hl (by decide) rfl (fun ls hl => ?_)
        refine lv_aload_n hx hb d_N_moveSome_73 rfl (lv_at hl 4 rfl) ?_
        refine lv_aload_n hx hb d_N_moveSome_74 rfl (lv_at hl 4 rfl) ?_
        refine va_get (D := D) (cl := classes) (ci := 2) (v := .int (nI c)) (C := "StepMapModel") (T := F_N) (N := 12) hx hb ht i_N hown hk.1 hP 0 rfl rfl 6 (by decide) (ht _ mw_1_188) (fun _ h9 => h9) rfl d_N_moveSome_75 ?_
        refine lv_iconst (v := (-1)) hx hb d_N_moveSome_78 (by decide) ?_
        refine lv_iload hx hb d_N_moveSome_79 (lv_at hl 0 rfl) ?_
        refine lv_isub hx hb d_N_moveSome_81 ?_
        refine x_top (z := (nI (fsl fc (tb c S1 K1 V1) (sh (1 - c) K1 (cur + tu))))) (m1m1 (by omega)) ?_
        refine lv_aload_n hx hb d_N_moveSome_82 rfl (lv_at hl 4 rfl) ?_
        refine va_get (D := D) (cl := classes) (ci := 2) (v := .ref q.2.1) (C := "StepMapModel") (T := F_N) (N := 12) hx hb ht i_N hown hk.1 hP 0 rfl rfl 3 (by decide) (ht _ mw_1_185) (fun _ h9 => h9) rfl d_N_moveSome_83 ?_
        refine lv_iload_n hx hb d_N_moveSome_86 rfl (lv_at hl 1 rfl) ?_
        refine x_ald hx hb hk hP 2 0 rfl rfl (i := (1024 * (1 - c) + (cur + tu))) (by omega) (by omega) d_N_moveSome_87 ?_
        refine x_top (z := (sh (1 - c) K1 (cur + tu))) ((sh_at K1 hj).symm) ?_
        refine lv_aload_n hx hb d_N_moveSome_88 rfl (lv_at hl 4 rfl) ?_
        refine va_get (D := D) (cl := classes) (ci := 2) (v := .ref q.2.2.1) (C := "StepMapModel") (T := F_N) (N := 12) hx hb ht i_N hown hk.1 hP 0 rfl rfl 4 (by decide) (ht _ mw_1_186) (fun _ h9 => h9) rfl d_N_moveSome_89 ?_
        refine lv_iload_n hx hb d_N_moveSome_92 rfl (lv_at hl 1 rfl) ?_
        refine x_ald hx hb hk hP 3 0 rfl rfl (i := (1024 * (1 - c) + (cur + tu))) (by omega) (by omega) d_N_moveSome_93 ?_
        refine x_top (z := (sh (1 - c) V1 (cur + tu))) ((sh_at V1 hj).symm) ?_
        refine xV_v (D := D) (k := 4) (ci := 2) (q := ("StepMapModel", F_N, 12)) (wr := []) (wb := fun u => (wN h q cA th hf (nI c) mv (nI (cur + tu)) cnt ((v1 + 1) + nI (fct fc (tb c S1 K1 V1) (sh (1 - c) K1 (cur + tu)))) wk (upd S1 (1024 * c + (fsl fc (tb c S1 K1 V1) (sh (1 - c) K1 (cur + tu)))) 1) (upd K1 (1024 * c + (fsl fc (tb c S1 K1 V1) (sh (1 - c) K1 (cur + tu)))) (sh (1 - c) K1 (cur + tu))) (upd V1 (1024 * c + (fsl fc (tb c S1 K1 V1) (sh (1 - c) K1 (cur + tu)))) (sh (1 - c) V1 (cur + tu))) ZZ)) (rest := []) ⟨hx, hb, hml, hown, ht⟩ (c_N_lay l D cA h q th hf (nI c) mv (nI (cur + tu)) cnt ((v1 + 1) + nI (fct fc (tb c S1 K1 V1) (sh (1 - c) K1 (cur + tu)))) wk S1 K1 V1 ZZ c (fsl fc (tb c S1 K1 V1) (sh (1 - c) K1 (cur + tu))) (sh (1 - c) K1 (cur + tu)) (sh (1 - c) V1 (cur + tu)) hc2 hsl4) gv_N_52 (by decide +kernel) rfl ⟨Nat.le_of_ble_eq_true rfl, Nat.le_of_ble_eq_true rfl⟩ hk hP hD hS hA [0, 1, 2, 3, 4] [] [0, 1, 2, 3, 4] rfl rfl (fun _ => rfl) ⟨rfl, rfl, rfl⟩ (by decide) rfl rfl hl.1 rfl (Nat.le_of_ble_eq_true rfl) d_N_moveSome_94 ⟨Nat.zero_le _, Nat.zero_le _⟩ (fun u H locs hp hP hD hS => ?_)
        have hP : va_P D classes (wN h q cA th hf (nI c) mv (nI (cur + tu)) cnt ((v1 + 1) + nI (fct fc (tb c S1 K1 V1) (sh (1 - c) K1 (cur + tu)))) wk (upd S1 (1024 * c + (fsl fc (tb c S1 K1 V1) (sh (1 - c) K1 (cur + tu)))) 1) (upd K1 (1024 * c + (fsl fc (tb c S1 K1 V1) (sh (1 - c) K1 (cur + tu)))) (sh (1 - c) K1 (cur + tu))) (upd V1 (1024 * c + (fsl fc (tb c S1 K1 V1) (sh (1 - c) K1 (cur + tu)))) (sh (1 - c) V1 (cur + tu))) ZZ) H := hP
        have hD : va_D A (wN h q cA th hf (nI c) mv (nI (cur + tu)) cnt ((v1 + 1) + nI (fct fc (tb c S1 K1 V1) (sh (1 - c) K1 (cur + tu)))) wk (upd S1 (1024 * c + (fsl fc (tb c S1 K1 V1) (sh (1 - c) K1 (cur + tu)))) 1) (upd K1 (1024 * c + (fsl fc (tb c S1 K1 V1) (sh (1 - c) K1 (cur + tu)))) (sh (1 - c) K1 (cur + tu))) (upd V1 (1024 * c + (fsl fc (tb c S1 K1 V1) (sh (1 - c) K1 (cur + tu)))) (sh (1 - c) V1 (cur + tu))) ZZ) := hD
        refine lv_aload_n hx hb d_N_moveSome_97 rfl (lv_at hl 4 rfl) ?_
        refine va_get (D := D) (cl := classes) (ci := 2) (v := .ref q.1) (C := "StepMapModel") (T := F_N) (N := 12) hx hb ht i_N hown hk.1 hP 0 rfl rfl 2 (by decide) (ht _ mw_1_184) (fun _ h9 => h9) rfl d_N_moveSome_98 ?_
        refine lv_iload_n hx hb d_N_moveSome_101 rfl (lv_at hl 1 rfl) ?_
        refine lv_iconst (v := 2) hx hb d_N_moveSome_102 (by decide) ?_
        refine x_ast hx hb hk hP hD hS 1 0 rfl rfl (i := (1024 * (1 - c) + (cur + tu))) (x := 2) (by omega) (by omega) d_N_moveSome_103 (fun H locs hP hD hS => ?_)
        have hP : va_P D classes (wN h q cA th hf (nI c) mv (nI (cur + tu)) cnt ((v1 + 1) + nI (fct fc (tb c S1 K1 V1) (sh (1 - c) K1 (cur + tu)))) wk (upd (upd S1 (1024 * c + (fsl fc (tb c S1 K1 V1) (sh (1 - c) K1 (cur + tu)))) 1) (1024 * (1 - c) + (cur + tu)) 2) (upd K1 (1024 * c + (fsl fc (tb c S1 K1 V1) (sh (1 - c) K1 (cur + tu)))) (sh (1 - c) K1 (cur + tu))) (upd V1 (1024 * c + (fsl fc (tb c S1 K1 V1) (sh (1 - c) K1 (cur + tu)))) (sh (1 - c) V1 (cur + tu))) ZZ) H := hP
        have hD : va_D A (wN h q cA th hf (nI c) mv (nI (cur + tu)) cnt ((v1 + 1) + nI (fct fc (tb c S1 K1 V1) (sh (1 - c) K1 (cur + tu)))) wk (upd (upd S1 (1024 * c + (fsl fc (tb c S1 K1 V1) (sh (1 - c) K1 (cur + tu)))) 1) (1024 * (1 - c) + (cur + tu)) 2) (upd K1 (1024 * c + (fsl fc (tb c S1 K1 V1) (sh (1 - c) K1 (cur + tu)))) (sh (1 - c) K1 (cur + tu))) (upd V1 (1024 * c + (fsl fc (tb c S1 K1 V1) (sh (1 - c) K1 (cur + tu)))) (sh (1 - c) V1 (cur + tu))) ZZ) := hD
        refine lv_aload_n hx hb d_N_moveSome_104 rfl (lv_at hl 4 rfl) ?_
        refine lv_dup hx hb d_N_moveSome_105 rfl ?_
        refine va_get (D := D) (cl := classes) (ci := 2) (v := .int (nI (cur + tu))) (C := "StepMapModel") (T := F_N) (N := 12) hx hb ht i_N hown hk.1 hP 0 rfl rfl 8 (by decide) (ht _ mw_1_190) (fun _ h9 => h9) rfl d_N_moveSome_106 ?_
        refine lv_iconst (v := 1) hx hb d_N_moveSome_109 (by decide) ?_
        refine lv_iadd hx hb d_N_moveSome_110 ?_
        refine x_top (z := (nI (cur + (tu + 1)))) (nI_1 (cur + tu)) ?_
        refine va_put (D := D) (cl := classes) (ci := 2) (v := .int (nI (cur + (tu + 1)))) (ty := .int) (C := "StepMapModel") (T := F_N) (N := 12) hx hb ht i_N tt_N tt_N_ok n_N hown hk.1 hP hD hS 0 rfl rfl 8 (by decide) (ht _ mw_1_190) (fun _ h9 => h9) rfl (by decide +kernel) rfl rfl (Nat.le_of_ble_eq_true rfl) d_N_moveSome_111 (fun H locs hP hD hS => ?_)
        have hP : va_P D classes (wN h q cA th hf (nI c) mv (nI (cur + (tu + 1))) cnt ((v1 + 1) + nI (fct fc (tb c S1 K1 V1) (sh (1 - c) K1 (cur + tu)))) wk (upd (upd S1 (1024 * c + (fsl fc (tb c S1 K1 V1) (sh (1 - c) K1 (cur + tu)))) 1) (1024 * (1 - c) + (cur + tu)) 2) (upd K1 (1024 * c + (fsl fc (tb c S1 K1 V1) (sh (1 - c) K1 (cur + tu)))) (sh (1 - c) K1 (cur + tu))) (upd V1 (1024 * c + (fsl fc (tb c S1 K1 V1) (sh (1 - c) K1 (cur + tu)))) (sh (1 - c) V1 (cur + tu))) ZZ) H := hP
        have hD : va_D A (wN h q cA th hf (nI c) mv (nI (cur + (tu + 1))) cnt ((v1 + 1) + nI (fct fc (tb c S1 K1 V1) (sh (1 - c) K1 (cur + tu)))) wk (upd (upd S1 (1024 * c + (fsl fc (tb c S1 K1 V1) (sh (1 - c) K1 (cur + tu)))) 1) (1024 * (1 - c) + (cur + tu)) 2) (upd K1 (1024 * c + (fsl fc (tb c S1 K1 V1) (sh (1 - c) K1 (cur + tu)))) (sh (1 - c) K1 (cur + tu))) (upd V1 (1024 * c + (fsl fc (tb c S1 K1 V1) (sh (1 - c) K1 (cur + tu)))) (sh (1 - c) V1 (cur + tu))) ZZ) := hD
        refine lv_iinc (v := (nI (tu + 1))) (lv' := [(2, .int (nI (tu + 1))), (4, .int (-1 - nI (fsl fc (tb c S1 K1 V1) (sh (1 - c) K1 (cur + tu))))), (3, .int (nI (1024 * (1 - c) + (cur + tu)))), (1, .int (nI (1 - c))), (0, .ref h)]) hx hb d_N_moveSome_114 hl (k := 2) rfl (nI_1 tu) (by decide) rfl (fun ls hl => ?_)
        refine lv_goto (tgt := 9) hx hb d_N_moveSome_117 (by decide) ?_
        have t1 : tb c (upd (upd S1 (1024 * c + (fsl fc (tb c S1 K1 V1) (sh (1 - c) K1 (cur + tu)))) 1) (1024 * (1 - c) + (cur + tu)) 2) (upd K1 (1024 * c + (fsl fc (tb c S1 K1 V1) (sh (1 - c) K1 (cur + tu)))) (sh (1 - c) K1 (cur + tu))) (upd V1 (1024 * c + (fsl fc (tb c S1 K1 V1) (sh (1 - c) K1 (cur + tu)))) (sh (1 - c) V1 (cur + tu))) = tput (tb c S1 K1 V1) (fsl fc (tb c S1 K1 V1) (sh (1 - c) K1 (cur + tu))) (sh (1 - c) K1 (cur + tu)) (sh (1 - c) V1 (cur + tu)) := by
          show (sh c (upd K1 (1024 * c + (fsl fc (tb c S1 K1 V1) (sh (1 - c) K1 (cur + tu)))) (sh (1 - c) K1 (cur + tu))), sh c (upd V1 (1024 * c + (fsl fc (tb c S1 K1 V1) (sh (1 - c) K1 (cur + tu)))) (sh (1 - c) V1 (cur + tu))), sh c (upd (upd S1 (1024 * c + (fsl fc (tb c S1 K1 V1) (sh (1 - c) K1 (cur + tu)))) 1) (1024 * (1 - c) + (cur + tu)) 2)) = _
          rw [sh_upd_o _ _ hj hcc2, sh_upd _ _ hsl4, sh_upd _ _ hsl4, sh_upd _ _ hsl4]; rfl
        have t2 : tb (1 - c) (upd (upd S1 (1024 * c + (fsl fc (tb c S1 K1 V1) (sh (1 - c) K1 (cur + tu)))) 1) (1024 * (1 - c) + (cur + tu)) 2) (upd K1 (1024 * c + (fsl fc (tb c S1 K1 V1) (sh (1 - c) K1 (cur + tu)))) (sh (1 - c) K1 (cur + tu))) (upd V1 (1024 * c + (fsl fc (tb c S1 K1 V1) (sh (1 - c) K1 (cur + tu)))) (sh (1 - c) V1 (cur + tu))) = (sh (1 - c) K1, sh (1 - c) V1, upd (sh (1 - c) S1) (cur + tu) 2) := by
          show (sh (1 - c) (upd K1 (1024 * c + (fsl fc (tb c S1 K1 V1) (sh (1 - c) K1 (cur + tu)))) (sh (1 - c) K1 (cur + tu))), sh (1 - c) (upd V1 (1024 * c + (fsl fc (tb c S1 K1 V1) (sh (1 - c) K1 (cur + tu)))) (sh (1 - c) V1 (cur + tu))), sh (1 - c) (upd (upd S1 (1024 * c + (fsl fc (tb c S1 K1 V1) (sh (1 - c) K1 (cur + tu)))) 1) (1024 * (1 - c) + (cur + tu)) 2)) = _
          rw [sh_upd _ _ hj, sh_upd_o _ _ hsl4 hcc, sh_upd_o _ _ hsl4 hcc, sh_upd_o _ _ hsl4 hcc]
        exact ih (tu + 1) (upd (upd S1 (1024 * c + (fsl fc (tb c S1 K1 V1) (sh (1 - c) K1 (cur + tu)))) 1) (1024 * (1 - c) + (cur + tu)) 2) (upd K1 (1024 * c + (fsl fc (tb c S1 K1 V1) (sh (1 - c) K1 (cur + tu)))) (sh (1 - c) K1 (cur + tu))) (upd V1 (1024 * c + (fsl fc (tb c S1 K1 V1) (sh (1 - c) K1 (cur + tu)))) (sh (1 - c) V1 (cur + tu))) _ _ _ _ (by omega) (by rw [t1, t2]; exact hm2) hP hD hS (lv_sub hl [0, 3, 4] rfl) (by rw [t1, t2]; exact e1) (by rw [t1, t2]; exact e2) (by rw [t1, t2, ← e3]; exact vis1 _ _ _ _)
  refine lv_iconst (v := 1) hx hb d_N_moveSome_0 (by decide) ?_
  refine lv_aload_n hx hb d_N_moveSome_1 rfl (lv_at hl 0 rfl) ?_
  refine va_get (D := D) (cl := classes) (ci := 2) (v := .int (nI c)) (C := "StepMapModel") (T := F_N) (N := 12) hx hb ht i_N hown hk.1 hP 0 rfl rfl 6 (by decide) (ht _ mw_1_188) (fun _ h9 => h9) rfl d_N_moveSome_2 ?_
  refine lv_isub hx hb d_N_moveSome_5 ?_
  refine x_top (z := (nI (1 - c))) (pk_sub (a := 1) (b := c) (by omega)) ?_
  refine lv_istore_n (lv' := [(1, .int (nI (1 - c))), (0, .ref h)]) hx hb d_N_moveSome_6 rfl hl (by decide) rfl (fun ls hl => ?_)
  refine lv_iconst (v := 0) hx hb d_N_moveSome_7 (by decide) ?_
  refine x_top (z := (nI 0)) (nI_0.symm) ?_
  refine lv_istore_n (lv' := [(2, .int (nI 0)), (1, .int (nI (1 - c))), (0, .ref h)]) hx hb d_N_moveSome_8 rfl hl (by decide) rfl (fun ls hl => ?_)
  exact loop (mvc oc cur) 0 SS KK VV vi _ _ _ (Nat.zero_add _) hok hP hD hS hl rfl rfl rfl
set_option maxHeartbeats 4000000 in
set_option maxRecDepth 100000 in
theorem c_N_become (l : Launch) (D : va_G) (cA : ClassId) (h : Nat) (q : Ad) (th hf : Int32) (c : Nat) (mv cq cnt vi wk : Int32) (SS KK VV ZZ : Nat → Int32) (z : Nat) (hc2 : c < 2) (hz : z ≤ 1024) : Mv l D [(cA, .int)] y_N_become b_N_become 3 1 22 0 0 [.ref h, .int (nI z)] (wN h q cA th hf (nI c) mv cq cnt vi wk SS KK VV ZZ) (fun (_ : Unit) => True) (fun _ => (wN h q cA th hf (nI (1 - c)) 1 0 cnt vi wk (ct (1 - c) SS z) KK VV (upd ZZ (1 - c) (nI z)))) := by
  refine mv_start (own := "StepMapModel") (by decide +kernel) rfl (Nat.le_of_ble_eq_true rfl) ?_
  intro p e s m args below meth cd ls A Q hx hb hml hin hown ht hk hP hD hA hl hret
  have hS : va_S A s.heap s.heap [] := va_S.rf
  have hl : lv_has ls 3 [(0, .ref h), (1, .int (nI z))] := hl
  have loop : ∀ (f i : Nat) (H : Heap) (locs : List Loc) (ls : Array Slot), i ≤ z → z + 1 ≤ i + f → va_P D classes (wN h q cA th hf (nI (1 - c)) mv cq cnt vi wk (ct (1 - c) SS i) KK VV (upd ZZ (1 - c) (nI z))) H → va_D A (wN h q cA th hf (nI (1 - c)) mv cq cnt vi wk (ct (1 - c) SS i) KK VV (upd ZZ (1 - c) (nI z))) → va_S A s.heap H locs → lv_has ls 3 [(2, .int (nI i)), (0, .ref h), (1, .int (nI z))] → W p l e { frames := 1, cells := 0, slots := 0, locals := 22 } s m args below meth cd H locs 0 0 Q (F0 m 22 ls []) := by
    intro f
    induction f with
    | zero => intro i H locs ls h1 h2; exact absurd h2 (by omega)
    | succ f ih =>
      intro i H locs ls hi hfu hP hD hS hl
      refine lv_iload_n hx hb d_N_become_22 rfl (lv_at hl 0 rfl) ?_
      refine lv_iload_n hx hb d_N_become_23 rfl (lv_at hl 2 rfl) ?_
      refine lv_icmp_ge (tgt := 48) hx hb d_N_become_24 (by decide) (fun c1 => ?_) (fun c1 => ?_)
      · skip
        have hiz : i = z := by
          rcases Nat.lt_or_ge i z with q | q
          · exact absurd c1 (nI_ge q (by omega))
          · omega
        subst hiz
        refine lv_aload_n hx hb d_N_become_48 rfl (lv_at hl 1 rfl) ?_
        refine lv_iconst (v := 0) hx hb d_N_become_49 (by decide) ?_
        refine va_put (D := D) (cl := classes) (ci := 2) (v := .int 0) (ty := .int) (C := "StepMapModel") (T := F_N) (N := 12) hx hb ht i_N tt_N tt_N_ok n_N hown hk.1 hP hD hS 0 rfl rfl 8 (by decide) (ht _ mw_1_190) (fun _ h9 => h9) rfl (by decide +kernel) rfl rfl (Nat.le_of_ble_eq_true rfl) d_N_become_50 (fun H locs hP hD hS => ?_)
        have hP : va_P D classes (wN h q cA th hf (nI (1 - c)) mv 0 cnt vi wk (ct (1 - c) SS i) KK VV (upd ZZ (1 - c) (nI i))) H := hP
        have hD : va_D A (wN h q cA th hf (nI (1 - c)) mv 0 cnt vi wk (ct (1 - c) SS i) KK VV (upd ZZ (1 - c) (nI i))) := hD
        refine lv_aload_n hx hb d_N_become_53 rfl (lv_at hl 1 rfl) ?_
        refine lv_iconst (v := 1) hx hb d_N_become_54 (by decide) ?_
        refine va_put (D := D) (cl := classes) (ci := 2) (v := .int 1) (ty := .boolean) (C := "StepMapModel") (T := F_N) (N := 12) hx hb ht i_N tt_N tt_N_ok n_N hown hk.1 hP hD hS 0 rfl rfl 7 (by decide) (ht _ mw_1_189) (fun _ h9 => h9) rfl (by decide +kernel) rfl rfl (Nat.le_of_ble_eq_true rfl) d_N_become_55 (fun H locs hP hD hS => ?_)
        have hP : va_P D classes (wN h q cA th hf (nI (1 - c)) 1 0 cnt vi wk (ct (1 - c) SS i) KK VV (upd ZZ (1 - c) (nI i))) H := hP
        have hD : va_D A (wN h q cA th hf (nI (1 - c)) 1 0 cnt vi wk (ct (1 - c) SS i) KK VV (upd ZZ (1 - c) (nI i))) := hD
        exact hret _ _ _ _ _ () d_N_become_58 hP hD hS (trivial) rfl
      · skip
        have hiz : i < z := by
          rcases Nat.lt_or_ge i z with q | q
          · exact q
          · exact absurd (nI_le q (by omega)) c1
        refine lv_aload_n hx hb d_N_become_27 rfl (lv_at hl 1 rfl) ?_
        refine va_get (D := D) (cl := classes) (ci := 2) (v := .ref q.1) (C := "StepMapModel") (T := F_N) (N := 12) hx hb ht i_N hown hk.1 hP 0 rfl rfl 2 (by decide) (ht _ mw_1_184) (fun _ h9 => h9) rfl d_N_become_28 ?_
        refine lv_aload_n hx hb d_N_become_31 rfl (lv_at hl 1 rfl) ?_
        refine lv_aload_n hx hb d_N_become_32 rfl (lv_at hl 1 rfl) ?_
        refine va_get (D := D) (cl := classes) (ci := 2) (v := .int (nI (1 - c))) (C := "StepMapModel") (T := F_N) (N := 12) hx hb ht i_N hown hk.1 hP 0 rfl rfl 6 (by decide) (ht _ mw_1_188) (fun _ h9 => h9) rfl d_N_become_33 ?_
        refine lv_iload_n hx hb d_N_become_36 rfl (lv_at hl 0 rfl) ?_
        refine xV_i (D := D) (k := 2) (ci := 2) (q := ("StepMapModel", F_N, 12)) (wr := []) (wb := fun u => (wN h q cA th hf (nI (1 - c)) mv cq cnt vi wk (ct (1 - c) SS i) KK VV (upd ZZ (1 - c) (nI z)))) (rest := [.ref q.1]) ⟨hx, hb, hml, hown, ht⟩ (c_N_at l D cA h q th hf (nI (1 - c)) mv cq cnt vi wk (ct (1 - c) SS i) KK VV (upd ZZ (1 - c) (nI z)) (1 - c) i) gv_N_37 (by decide +kernel) rfl ⟨Nat.le_of_ble_eq_true rfl, Nat.le_of_ble_eq_true rfl⟩ hk hP hD hS hA [0, 1, 2, 3, 4] [] [0, 1, 2, 3, 4] rfl rfl (fun _ => rfl) ⟨rfl, rfl, rfl⟩ (by decide) rfl rfl hl.1 rfl (Nat.le_of_ble_eq_true rfl) d_N_become_37 ⟨Nat.zero_le _, Nat.zero_le _⟩ (fun r u H locs hp hP hD hS => ?_)
        have hp : r = (nI (1024 * (1 - c) + i)) := hp
        subst hp
        have hP : va_P D classes (wN h q cA th hf (nI (1 - c)) mv cq cnt vi wk (ct (1 - c) SS i) KK VV (upd ZZ (1 - c) (nI z))) H := hP
        have hD : va_D A (wN h q cA th hf (nI (1 - c)) mv cq cnt vi wk (ct (1 - c) SS i) KK VV (upd ZZ (1 - c) (nI z))) := hD
        refine lv_iconst (v := 0) hx hb d_N_become_40 (by decide) ?_
        refine x_ast hx hb hk hP hD hS 1 0 rfl rfl (i := (1024 * (1 - c) + i)) (x := 0) (by omega) (by omega) d_N_become_41 (fun H locs hP hD hS => ?_)
        have hP : va_P D classes (wN h q cA th hf (nI (1 - c)) mv cq cnt vi wk (upd (ct (1 - c) SS i) (1024 * (1 - c) + i) 0) KK VV (upd ZZ (1 - c) (nI z))) H := hP
        have hD : va_D A (wN h q cA th hf (nI (1 - c)) mv cq cnt vi wk (upd (ct (1 - c) SS i) (1024 * (1 - c) + i) 0) KK VV (upd ZZ (1 - c) (nI z))) := hD
        rw [ct_s] at hP hD
        refine lv_iinc (v := (nI (i + 1))) (lv' := [(2, .int (nI (i + 1))), (0, .ref h), (1, .int (nI z))]) hx hb d_N_become_42 hl (k := 0) rfl (nI_1 i) (by decide) rfl (fun ls hl => ?_)
        refine lv_goto (tgt := 22) hx hb d_N_become_45 (by decide) ?_
        exact ih (i + 1) _ _ _ hiz (by omega) hP hD hS (lv_sub hl [0, 1, 2] rfl)
  refine lv_aload_n hx hb d_N_become_0 rfl (lv_at hl 0 rfl) ?_
  refine lv_iconst (v := 1) hx hb d_N_become_1 (by decide) ?_
  refine lv_aload_n hx hb d_N_become_2 rfl (lv_at hl 0 rfl) ?_
  refine va_get (D := D) (cl := classes) (ci := 2) (v := .int (nI c)) (C := "StepMapModel") (T := F_N) (N := 12) hx hb ht i_N hown hk.1 hP 0 rfl rfl 6 (by decide) (ht _ mw_1_188) (fun _ h9 => h9) rfl d_N_become_3 ?_
  refine lv_isub hx hb d_N_become_6 ?_
  refine x_top (z := (nI (1 - c))) (pk_sub (a := 1) (b := c) (by omega)) ?_
  refine va_put (D := D) (cl := classes) (ci := 2) (v := .int (nI (1 - c))) (ty := .int) (C := "StepMapModel") (T := F_N) (N := 12) hx hb ht i_N tt_N tt_N_ok n_N hown hk.1 hP hD hS 0 rfl rfl 6 (by decide) (ht _ mw_1_188) (fun _ h9 => h9) rfl (by decide +kernel) rfl rfl (Nat.le_of_ble_eq_true rfl) d_N_become_7 (fun H locs hP hD hS => ?_)
  have hP : va_P D classes (wN h q cA th hf (nI (1 - c)) mv cq cnt vi wk SS KK VV ZZ) H := hP
  have hD : va_D A (wN h q cA th hf (nI (1 - c)) mv cq cnt vi wk SS KK VV ZZ) := hD
  refine lv_aload_n hx hb d_N_become_10 rfl (lv_at hl 0 rfl) ?_
  refine va_get (D := D) (cl := classes) (ci := 2) (v := .ref q.2.2.2) (C := "StepMapModel") (T := F_N) (N := 12) hx hb ht i_N hown hk.1 hP 0 rfl rfl 5 (by decide) (ht _ mw_1_187) (fun _ h9 => h9) rfl d_N_become_11 ?_
  refine lv_aload_n hx hb d_N_become_14 rfl (lv_at hl 0 rfl) ?_
  refine va_get (D := D) (cl := classes) (ci := 2) (v := .int (nI (1 - c))) (C := "StepMapModel") (T := F_N) (N := 12) hx hb ht i_N hown hk.1 hP 0 rfl rfl 6 (by decide) (ht _ mw_1_188) (fun _ h9 => h9) rfl d_N_become_15 ?_
  refine lv_iload_n hx hb d_N_become_18 rfl (lv_at hl 1 rfl) ?_
  refine x_ast hx hb hk hP hD hS 4 0 rfl rfl (i := (1 - c)) (x := (nI z)) (by omega) (by omega) d_N_become_19 (fun H locs hP hD hS => ?_)
  have hP : va_P D classes (wN h q cA th hf (nI (1 - c)) mv cq cnt vi wk SS KK VV (upd ZZ (1 - c) (nI z))) H := hP
  have hD : va_D A (wN h q cA th hf (nI (1 - c)) mv cq cnt vi wk SS KK VV (upd ZZ (1 - c) (nI z))) := hD
  refine lv_iconst (v := 0) hx hb d_N_become_20 (by decide) ?_
  refine x_top (z := (nI 0)) (nI_0.symm) ?_
  refine lv_istore_n (lv' := [(2, .int (nI 0)), (0, .ref h), (1, .int (nI z))]) hx hb d_N_become_21 rfl hl (by decide) rfl (fun ls hl => ?_)
  have hP2 : va_P D classes (wN h q cA th hf (nI (1 - c)) mv cq cnt vi wk (ct (1 - c) SS 0) KK VV (upd ZZ (1 - c) (nI z))) H := by rw [ct_0]; exact hP
  have hD2 : va_D A (wN h q cA th hf (nI (1 - c)) mv cq cnt vi wk (ct (1 - c) SS 0) KK VV (upd ZZ (1 - c) (nI z))) := by rw [ct_0]; exact hD
  exact loop (z + 1) 0 _ _ _ (Nat.zero_le _) (by omega) hP2 hD2 hS hl
end
section
def findA (fc : Nat) (F : Tb) (oc : Nat) (O : Tb) (cur c : Nat) (k : Int32) : Int32 := if F.2.2 (fsl fc F k) = 1 then nI (1024 * c + fsl fc F k) else if inO oc O cur k then nI (1024 * (1 - c) + fsl oc O k) else -1
set_option maxHeartbeats 4000000 in
set_option maxRecDepth 100000 in
theorem c_N_settle (l : Launch) (D : va_G) (cA : ClassId) (h : Nat) (q : Ad) (th : Int32) (hf c : Nat) (mv cq : Int32) (cnt : Nat) (vi wk : Int32) (SS KK VV ZZ : Nat → Int32) (fc oc cur : Nat) (w : Nat) (hmr : MR fc (tb c SS KK VV) oc (tb (1 - c) SS KK VV) cur c mv cq SS KK VV ZZ) (hsi : SI hf fc (tb c SS KK VV) oc (tb (1 - c) SS KK VV) cur cnt) (hw : vi = nI w) : Mv l D [(cA, .int)] y_N_settle b_N_settle 2 3 71 0 0 [.ref h] (wN h q cA th (nI hf) (nI c) mv cq (nI cnt) vi wk SS KK VV ZZ) (fun (u : Un) => MRu (stl fc (tb c SS KK VV) oc (tb (1 - c) SS KK VV) cur cnt wk) u ∧ u.2.2.2.1 = nI (stw fc (tb c SS KK VV) oc (tb (1 - c) SS KK VV) cur w)) (fun u => wU h q cA th hf (stl fc (tb c SS KK VV) oc (tb (1 - c) SS KK VV) cur cnt wk) u) := by
  refine mv_start (own := "StepMapModel") (by decide +kernel) rfl (Nat.le_of_ble_eq_true rfl) ?_
  intro p e s m args below meth cd ls A Q hx hb hml hin hown ht hk hP hD hA hl hret
  have hS : va_S A s.heap s.heap [] := va_S.rf
  have hl : lv_has ls 2 [(0, .ref h)] := hl
  obtain ⟨hh, hfh, hf8, hcu, ho, hct⟩ := hsi.bounds
  have hpf := hsi.2.1
  obtain ⟨hg1, hg2⟩ := hsi.half
  have hok := hsi.mok
  obtain ⟨hc2, -, -, hz, hmo⟩ := hmr
  have hcc : ¬ c = 1 - c := by omega
  have hcc2 : ¬ 1 - c = c := by omega
  have sec : (3 * fc ≤ 4 * cnt → 2 * fc ≤ hf) → ∀ (S1 K1 V1 : Nat → Int32) (c1 v1 : Int32) (H : Heap) (locs : List Loc) (ls : Array Slot), va_P D classes (wN h q cA th (nI hf) (nI c) 0 c1 (nI cnt) v1 wk S1 K1 V1 ZZ) H → va_D A (wN h q cA th (nI hf) (nI c) 0 c1 (nI cnt) v1 wk S1 K1 V1 ZZ) → va_S A s.heap H locs → lv_has ls 2 [(0, .ref h)] → (stl fc (tb c SS KK VV) oc (tb (1 - c) SS KK VV) cur cnt wk) = s2 fc (tb c S1 K1 V1) (tb (1 - c) S1 K1 V1) cnt wk → v1 = nI (stw fc (tb c SS KK VV) oc (tb (1 - c) SS KK VV) cur w) → W p l e { frames := 3, cells := 0, slots := 0, locals := 71 } s m args below meth cd H locs 0 0 Q (F0 m 11 ls []) := by
    intro hgr S1 K1 V1 c1 v1 H locs ls hP hD hS hl eS eW
    refine lv_aload_n hx hb d_N_settle_11 rfl (lv_at hl 0 rfl) ?_
    refine va_get (D := D) (cl := classes) (ci := 2) (v := .ref q.2.2.2) (C := "StepMapModel") (T := F_N) (N := 12) hx hb ht i_N hown hk.1 hP 0 rfl rfl 5 (by decide) (ht _ mw_1_187) (fun _ h9 => h9) rfl d_N_settle_12 ?_
    refine lv_aload_n hx hb d_N_settle_15 rfl (lv_at hl 0 rfl) ?_
    refine va_get (D := D) (cl := classes) (ci := 2) (v := .int (nI c)) (C := "StepMapModel") (T := F_N) (N := 12) hx hb ht i_N hown hk.1 hP 0 rfl rfl 6 (by decide) (ht _ mw_1_188) (fun _ h9 => h9) rfl d_N_settle_16 ?_
    refine x_ald hx hb hk hP 4 0 rfl rfl (i := c) (by omega) (by omega) d_N_settle_19 ?_
    refine x_top (z := (nI fc)) (hz) ?_
    refine lv_istore_n (lv' := [(1, .int (nI fc)), (0, .ref h)]) hx hb d_N_settle_20 rfl hl (by decide) rfl (fun ls hl => ?_)
    refine lv_aload_n hx hb d_N_settle_21 rfl (lv_at hl 1 rfl) ?_
    refine va_get (D := D) (cl := classes) (ci := 2) (v := .int 0) (C := "StepMapModel") (T := F_N) (N := 12) hx hb ht i_N hown hk.1 hP 0 rfl rfl 7 (by decide) (ht _ mw_1_189) (fun _ h9 => h9) rfl d_N_settle_22 ?_
    refine lv_if_ne (tgt := 50) hx hb d_N_settle_25 (by decide) (fun c9 => absurd (rfl) c9) (fun _ => ?_)
    refine lv_iconst (v := 4) hx hb d_N_settle_28 (by decide) ?_
    refine lv_aload_n hx hb d_N_settle_29 rfl (lv_at hl 1 rfl) ?_
    refine va_get (D := D) (cl := classes) (ci := 2) (v := .int (nI cnt)) (C := "StepMapModel") (T := F_N) (N := 12) hx hb ht i_N hown hk.1 hP 0 rfl rfl 9 (by decide) (ht _ mw_1_191) (fun _ h9 => h9) rfl d_N_settle_30 ?_
    refine lv_imul hx hb d_N_settle_33 ?_
    refine x_top (z := (nI (4 * cnt))) (mul4 cnt) ?_
    refine lv_iconst (v := 3) hx hb d_N_settle_34 (by decide) ?_
    refine lv_iload_n hx hb d_N_settle_35 rfl (lv_at hl 0 rfl) ?_
    refine lv_imul hx hb d_N_settle_36 ?_
    refine x_top (z := (nI (3 * fc))) (mul3 fc) ?_
    refine lv_icmp_lt (tgt := 50) hx hb d_N_settle_37 (by decide) (fun x1 => ?_) (fun x1 => ?_)
    · skip
      have h1 : ¬ 3 * fc ≤ 4 * cnt := fun z => nI_nlt z (by omega) x1
      refine lv_aload_n hx hb d_N_settle_50 rfl (lv_at hl 1 rfl) ?_
      refine va_get (D := D) (cl := classes) (ci := 2) (v := .int 0) (C := "StepMapModel") (T := F_N) (N := 12) hx hb ht i_N hown hk.1 hP 0 rfl rfl 7 (by decide) (ht _ mw_1_189) (fun _ h9 => h9) rfl d_N_settle_51 ?_
      refine lv_if_ne (tgt := 81) hx hb d_N_settle_54 (by decide) (fun c9 => absurd (rfl) c9) (fun _ => ?_)
      refine lv_iload_n hx hb d_N_settle_57 rfl (lv_at hl 0 rfl) ?_
      refine lv_bipush (v := 8) hx hb d_N_settle_58 (by decide) ?_
      refine lv_icmp_le (tgt := 81) hx hb d_N_settle_60 (by decide) (fun x2 => ?_) (fun x2 => ?_)
      · skip
        have q2 : fc ≤ 8 := (nI_leI (a := fc) (b := 8) (by omega) (by decide)).mp x2
        have eS : (stl fc (tb c SS KK VV) oc (tb (1 - c) SS KK VV) cur cnt wk) = (fc, tb c S1 K1 V1, 0, tb (1 - c) S1 K1 V1, 0, cnt, wk) := by rw [eS]; unfold s2; rw [if_neg h1, if_neg (fun z => by omega)]
        have hM : MRu (stl fc (tb c SS KK VV) oc (tb (1 - c) SS KK VV) cur cnt wk) (c, 0, c1, v1, S1, K1, V1, ZZ) := by rw [eS]; exact ⟨hc2, rfl, rfl, hz, Or.inr ⟨Nat.lt_irrefl 0, rfl⟩⟩
        have hP : va_P D classes (wU h q cA th hf (stl fc (tb c SS KK VV) oc (tb (1 - c) SS KK VV) cur cnt wk) (c, 0, c1, v1, S1, K1, V1, ZZ)) H := by rw [eS]; exact hP
        have hD : va_D A (wU h q cA th hf (stl fc (tb c SS KK VV) oc (tb (1 - c) SS KK VV) cur cnt wk) (c, 0, c1, v1, S1, K1, V1, ZZ)) := by rw [eS]; exact hD
        exact hret _ _ _ _ _ (c, 0, c1, v1, S1, K1, V1, ZZ) d_N_settle_81 hP hD hS (⟨hM, eW⟩) rfl
      · skip
        have q2 : 8 < fc := Nat.lt_of_not_le fun z => x2 (nI_le z (by decide))
        refine lv_bipush (v := 8) hx hb d_N_settle_63 (by decide) ?_
        refine lv_aload_n hx hb d_N_settle_65 rfl (lv_at hl 1 rfl) ?_
        refine va_get (D := D) (cl := classes) (ci := 2) (v := .int (nI cnt)) (C := "StepMapModel") (T := F_N) (N := 12) hx hb ht i_N hown hk.1 hP 0 rfl rfl 9 (by decide) (ht _ mw_1_191) (fun _ h9 => h9) rfl d_N_settle_66 ?_
        refine lv_imul hx hb d_N_settle_69 ?_
        refine x_top (z := (nI (8 * cnt))) (mul8 cnt) ?_
        refine lv_iload_n hx hb d_N_settle_70 rfl (lv_at hl 0 rfl) ?_
        refine lv_icmp_gt (tgt := 81) hx hb d_N_settle_71 (by decide) (fun x3 => ?_) (fun x3 => ?_)
        · skip
          have q1 : fc < 8 * cnt := (nI_ltI (by omega) (by omega)).mp x3
          have eS : (stl fc (tb c SS KK VV) oc (tb (1 - c) SS KK VV) cur cnt wk) = (fc, tb c S1 K1 V1, 0, tb (1 - c) S1 K1 V1, 0, cnt, wk) := by rw [eS]; unfold s2; rw [if_neg h1, if_neg (fun z => by omega)]
          have hM : MRu (stl fc (tb c SS KK VV) oc (tb (1 - c) SS KK VV) cur cnt wk) (c, 0, c1, v1, S1, K1, V1, ZZ) := by rw [eS]; exact ⟨hc2, rfl, rfl, hz, Or.inr ⟨Nat.lt_irrefl 0, rfl⟩⟩
          have hP : va_P D classes (wU h q cA th hf (stl fc (tb c SS KK VV) oc (tb (1 - c) SS KK VV) cur cnt wk) (c, 0, c1, v1, S1, K1, V1, ZZ)) H := by rw [eS]; exact hP
          have hD : va_D A (wU h q cA th hf (stl fc (tb c SS KK VV) oc (tb (1 - c) SS KK VV) cur cnt wk) (c, 0, c1, v1, S1, K1, V1, ZZ)) := by rw [eS]; exact hD
          exact hret _ _ _ _ _ (c, 0, c1, v1, S1, K1, V1, ZZ) d_N_settle_81 hP hD hS (⟨hM, eW⟩) rfl
        · skip
          have q1 : 8 * cnt ≤ fc := Nat.le_of_not_lt fun z => x3 (nI_lt z (by omega))
          refine lv_aload_n hx hb d_N_settle_74 rfl (lv_at hl 1 rfl) ?_
          refine lv_iload_n hx hb d_N_settle_75 rfl (lv_at hl 0 rfl) ?_
          refine lv_iconst (v := 2) hx hb d_N_settle_76 (by decide) ?_
          refine lv_idiv hx hb d_N_settle_77 (by decide) ?_
          refine x_top (z := (nI (fc / 2))) (div2N (by omega)) ?_
          refine xV_v (D := D) (k := 1) (ci := 2) (q := ("StepMapModel", F_N, 12)) (wr := []) (wb := fun u => (wN h q cA th (nI hf) (nI (1 - c)) 1 0 (nI cnt) v1 wk (ct (1 - c) S1 (fc / 2)) K1 V1 (upd ZZ (1 - c) (nI (fc / 2))))) (rest := []) ⟨hx, hb, hml, hown, ht⟩ (c_N_become l D cA h q th (nI hf) c 0 c1 (nI cnt) v1 wk S1 K1 V1 ZZ (fc / 2) hc2 (by omega)) gv_N_66 (by decide +kernel) rfl ⟨Nat.le_of_ble_eq_true rfl, Nat.le_of_ble_eq_true rfl⟩ hk hP hD hS hA [0, 1, 2, 3, 4] [] [0, 1, 2, 3, 4] rfl rfl (fun _ => rfl) ⟨rfl, rfl, rfl⟩ (by decide) rfl rfl hl.1 rfl (Nat.le_of_ble_eq_true rfl) d_N_settle_78 ⟨Nat.zero_le _, Nat.zero_le _⟩ (fun u H locs hp hP hD hS => ?_)
          have hP : va_P D classes (wN h q cA th (nI hf) (nI (1 - c)) 1 0 (nI cnt) v1 wk (ct (1 - c) S1 (fc / 2)) K1 V1 (upd ZZ (1 - c) (nI (fc / 2)))) H := hP
          have hD : va_D A (wN h q cA th (nI hf) (nI (1 - c)) 1 0 (nI cnt) v1 wk (ct (1 - c) S1 (fc / 2)) K1 V1 (upd ZZ (1 - c) (nI (fc / 2)))) := hD
          have eS : (stl fc (tb c SS KK VV) oc (tb (1 - c) SS KK VV) cur cnt wk) = (fc / 2, (sh (1 - c) K1, sh (1 - c) V1, clr (sh (1 - c) S1) (fc / 2)), fc, tb c S1 K1 V1, 0, cnt, wk) := by rw [eS]; unfold s2; rw [if_neg h1, if_pos ⟨q1, q2⟩]
          have hM : MRu (stl fc (tb c SS KK VV) oc (tb (1 - c) SS KK VV) cur cnt wk) (1 - c, 1, 0, v1, ct (1 - c) S1 (fc / 2), K1, V1, upd ZZ (1 - c) (nI (fc / 2))) := by
            rw [eS]
            refine ⟨by omega, ?_, ?_, upd_at _ _ _, Or.inl ⟨by show 0 < fc; omega, rfl, nI_0.symm, ?_⟩⟩
            · show _ = (sh (1 - c) K1, sh (1 - c) V1, sh (1 - c) (ct (1 - c) S1 (fc / 2)))
              rw [sh_ct]
            · show _ = (sh (1 - (1 - c)) K1, sh (1 - (1 - c)) V1, sh (1 - (1 - c)) (ct (1 - c) S1 (fc / 2)))
              rw [show 1 - (1 - c) = c by omega, sh_ct_o _ (by omega) hcc2]
            · show upd ZZ (1 - c) _ (1 - (1 - c)) = nI fc
              rw [show 1 - (1 - c) = c by omega, upd_ne _ _ hcc]; exact hz
          have hP : va_P D classes (wU h q cA th hf (stl fc (tb c SS KK VV) oc (tb (1 - c) SS KK VV) cur cnt wk) (1 - c, 1, 0, v1, ct (1 - c) S1 (fc / 2), K1, V1, upd ZZ (1 - c) (nI (fc / 2)))) H := by rw [eS]; exact hP
          have hD : va_D A (wU h q cA th hf (stl fc (tb c SS KK VV) oc (tb (1 - c) SS KK VV) cur cnt wk) (1 - c, 1, 0, v1, ct (1 - c) S1 (fc / 2), K1, V1, upd ZZ (1 - c) (nI (fc / 2)))) := by rw [eS]; exact hD
          exact hret _ _ _ _ _ (1 - c, 1, 0, v1, ct (1 - c) S1 (fc / 2), K1, V1, upd ZZ (1 - c) (nI (fc / 2))) d_N_settle_81 hP hD hS (⟨hM, eW⟩) rfl
    · skip
      have h1 : 3 * fc ≤ 4 * cnt := Nat.le_of_not_lt fun z => x1 (nI_lt z (by omega))
      have h2f := hgr h1
      refine lv_aload_n hx hb d_N_settle_40 rfl (lv_at hl 1 rfl) ?_
      refine lv_iconst (v := 2) hx hb d_N_settle_41 (by decide) ?_
      refine lv_iload_n hx hb d_N_settle_42 rfl (lv_at hl 0 rfl) ?_
      refine lv_imul hx hb d_N_settle_43 ?_
      refine x_top (z := (nI (2 * fc))) (mul2 fc) ?_
      refine xV_v (D := D) (k := 1) (ci := 2) (q := ("StepMapModel", F_N, 12)) (wr := []) (wb := fun u => (wN h q cA th (nI hf) (nI (1 - c)) 1 0 (nI cnt) v1 wk (ct (1 - c) S1 (2 * fc)) K1 V1 (upd ZZ (1 - c) (nI (2 * fc))))) (rest := []) ⟨hx, hb, hml, hown, ht⟩ (c_N_become l D cA h q th (nI hf) c 0 c1 (nI cnt) v1 wk S1 K1 V1 ZZ (2 * fc) hc2 (by omega)) gv_N_66 (by decide +kernel) rfl ⟨Nat.le_of_ble_eq_true rfl, Nat.le_of_ble_eq_true rfl⟩ hk hP hD hS hA [0, 1, 2, 3, 4] [] [0, 1, 2, 3, 4] rfl rfl (fun _ => rfl) ⟨rfl, rfl, rfl⟩ (by decide) rfl rfl hl.1 rfl (Nat.le_of_ble_eq_true rfl) d_N_settle_44 ⟨Nat.zero_le _, Nat.zero_le _⟩ (fun u H locs hp hP hD hS => ?_)
      have hP : va_P D classes (wN h q cA th (nI hf) (nI (1 - c)) 1 0 (nI cnt) v1 wk (ct (1 - c) S1 (2 * fc)) K1 V1 (upd ZZ (1 - c) (nI (2 * fc)))) H := hP
      have hD : va_D A (wN h q cA th (nI hf) (nI (1 - c)) 1 0 (nI cnt) v1 wk (ct (1 - c) S1 (2 * fc)) K1 V1 (upd ZZ (1 - c) (nI (2 * fc)))) := hD
      have eS : (stl fc (tb c SS KK VV) oc (tb (1 - c) SS KK VV) cur cnt wk) = (2 * fc, (sh (1 - c) K1, sh (1 - c) V1, clr (sh (1 - c) S1) (2 * fc)), fc, tb c S1 K1 V1, 0, cnt, wk) := by rw [eS]; unfold s2; rw [if_pos h1]
      refine lv_goto (tgt := 81) hx hb d_N_settle_47 (by decide) ?_
      have hM : MRu (stl fc (tb c SS KK VV) oc (tb (1 - c) SS KK VV) cur cnt wk) (1 - c, 1, 0, v1, ct (1 - c) S1 (2 * fc), K1, V1, upd ZZ (1 - c) (nI (2 * fc))) := by
        rw [eS]
        refine ⟨by omega, ?_, ?_, upd_at _ _ _, Or.inl ⟨by show 0 < fc; omega, rfl, nI_0.symm, ?_⟩⟩
        · show _ = (sh (1 - c) K1, sh (1 - c) V1, sh (1 - c) (ct (1 - c) S1 (2 * fc)))
          rw [sh_ct]
        · show _ = (sh (1 - (1 - c)) K1, sh (1 - (1 - c)) V1, sh (1 - (1 - c)) (ct (1 - c) S1 (2 * fc)))
          rw [show 1 - (1 - c) = c by omega, sh_ct_o _ (by omega) hcc2]
        · show upd ZZ (1 - c) _ (1 - (1 - c)) = nI fc
          rw [show 1 - (1 - c) = c by omega, upd_ne _ _ hcc]; exact hz
      have hP : va_P D classes (wU h q cA th hf (stl fc (tb c SS KK VV) oc (tb (1 - c) SS KK VV) cur cnt wk) (1 - c, 1, 0, v1, ct (1 - c) S1 (2 * fc), K1, V1, upd ZZ (1 - c) (nI (2 * fc)))) H := by rw [eS]; exact hP
      have hD : va_D A (wU h q cA th hf (stl fc (tb c SS KK VV) oc (tb (1 - c) SS KK VV) cur cnt wk) (1 - c, 1, 0, v1, ct (1 - c) S1 (2 * fc), K1, V1, upd ZZ (1 - c) (nI (2 * fc)))) := by rw [eS]; exact hD
      exact hret _ _ _ _ _ (1 - c, 1, 0, v1, ct (1 - c) S1 (2 * fc), K1, V1, upd ZZ (1 - c) (nI (2 * fc))) d_N_settle_81 hP hD hS (⟨hM, eW⟩) rfl
  rcases hmo with ⟨h1, hm1, hm2, hm3⟩ | ⟨h1, hm1⟩
  · skip
    subst hm1 hm2
    refine lv_aload_n hx hb d_N_settle_0 rfl (lv_at hl 0 rfl) ?_
    refine va_get (D := D) (cl := classes) (ci := 2) (v := .int 1) (C := "StepMapModel") (T := F_N) (N := 12) hx hb ht i_N hown hk.1 hP 0 rfl rfl 7 (by decide) (ht _ mw_1_189) (fun _ h9 => h9) rfl d_N_settle_1 ?_
    refine lv_if_eq (tgt := 11) hx hb d_N_settle_4 (by decide) (fun c9 => absurd c9 (by decide)) (fun _ => ?_)
    refine lv_aload_n hx hb d_N_settle_7 rfl (lv_at hl 0 rfl) ?_
    refine xV_v (D := D) (k := 0) (ci := 2) (q := ("StepMapModel", F_N, 12)) (wr := []) (wb := fun u => (wN h q cA th (nI hf) (nI c) (if cur + mvc oc cur < oc then 1 else 0) (nI (cur + mvc oc cur)) (nI cnt) (vi + nI ((mvn fc (mvc oc cur) cur (tb c SS KK VV) (tb (1 - c) SS KK VV)).2.2 + mvc oc cur)) wk u.1 u.2.1 u.2.2 ZZ)) (rest := []) ⟨hx, hb, hml, hown, ht⟩ (c_N_moveSome l D cA h q th (nI hf) c 1 (nI cnt) vi wk SS KK VV ZZ fc oc cur hpf hc2 hz hm3 h1 (by omega) (hok h1)) gv_N_60 (by decide +kernel) rfl ⟨Nat.le_of_ble_eq_true rfl, Nat.le_of_ble_eq_true rfl⟩ hk hP hD hS hA [0, 1, 2, 3, 4] [] [0, 1, 2, 3, 4] rfl rfl (fun _ => rfl) ⟨rfl, rfl, rfl⟩ (by decide) rfl rfl hl.1 rfl (Nat.le_of_ble_eq_true rfl) d_N_settle_8 ⟨Nat.zero_le _, Nat.zero_le _⟩ (fun u H locs hp hP hD hS => ?_)
    have hP : va_P D classes (wN h q cA th (nI hf) (nI c) (if cur + mvc oc cur < oc then 1 else 0) (nI (cur + mvc oc cur)) (nI cnt) (vi + nI ((mvn fc (mvc oc cur) cur (tb c SS KK VV) (tb (1 - c) SS KK VV)).2.2 + mvc oc cur)) wk u.1 u.2.1 u.2.2 ZZ) H := hP
    have hD : va_D A (wN h q cA th (nI hf) (nI c) (if cur + mvc oc cur < oc then 1 else 0) (nI (cur + mvc oc cur)) (nI cnt) (vi + nI ((mvn fc (mvc oc cur) cur (tb c SS KK VV) (tb (1 - c) SS KK VV)).2.2 + mvc oc cur)) wk u.1 u.2.1 u.2.2 ZZ) := hD
    obtain ⟨S1, K1, V1⟩ := u
    obtain ⟨p1, p2⟩ : tb c S1 K1 V1 = (mvn fc (mvc oc cur) cur (tb c SS KK VV) (tb (1 - c) SS KK VV)).1 ∧ tb (1 - c) S1 K1 V1 = (mvn fc (mvc oc cur) cur (tb c SS KK VV) (tb (1 - c) SS KK VV)).2.1 := hp
    have eW : vi + nI ((mvn fc (mvc oc cur) cur (tb c SS KK VV) (tb (1 - c) SS KK VV)).2.2 + mvc oc cur) = nI (stw fc (tb c SS KK VV) oc (tb (1 - c) SS KK VV) cur w) := by unfold stw; rw [if_pos h1, hw, nI_add]
    have hP : va_P D classes (wN h q cA th (nI hf) (nI c) (if cur + mvc oc cur < oc then 1 else 0) (nI (cur + mvc oc cur)) (nI cnt) (vi + nI ((mvn fc (mvc oc cur) cur (tb c SS KK VV) (tb (1 - c) SS KK VV)).2.2 + mvc oc cur)) wk S1 K1 V1 ZZ) H := hP
    have hD : va_D A (wN h q cA th (nI hf) (nI c) (if cur + mvc oc cur < oc then 1 else 0) (nI (cur + mvc oc cur)) (nI cnt) (vi + nI ((mvn fc (mvc oc cur) cur (tb c SS KK VV) (tb (1 - c) SS KK VV)).2.2 + mvc oc cur)) wk S1 K1 V1 ZZ) := hD
    by_cases h2 : cur + mvc oc cur < oc
    · skip
      rw [if10 h2] at hP hD
      have hP : va_P D classes (wN h q cA th (nI hf) (nI c) 1 (nI (cur + mvc oc cur)) (nI cnt) (vi + nI ((mvn fc (mvc oc cur) cur (tb c SS KK VV) (tb (1 - c) SS KK VV)).2.2 + mvc oc cur)) wk S1 K1 V1 ZZ) H := hP
      have hD : va_D A (wN h q cA th (nI hf) (nI c) 1 (nI (cur + mvc oc cur)) (nI cnt) (vi + nI ((mvn fc (mvc oc cur) cur (tb c SS KK VV) (tb (1 - c) SS KK VV)).2.2 + mvc oc cur)) wk S1 K1 V1 ZZ) := hD
      refine lv_aload_n hx hb d_N_settle_11 rfl (lv_at hl 0 rfl) ?_
      refine va_get (D := D) (cl := classes) (ci := 2) (v := .ref q.2.2.2) (C := "StepMapModel") (T := F_N) (N := 12) hx hb ht i_N hown hk.1 hP 0 rfl rfl 5 (by decide) (ht _ mw_1_187) (fun _ h9 => h9) rfl d_N_settle_12 ?_
      refine lv_aload_n hx hb d_N_settle_15 rfl (lv_at hl 0 rfl) ?_
      refine va_get (D := D) (cl := classes) (ci := 2) (v := .int (nI c)) (C := "StepMapModel") (T := F_N) (N := 12) hx hb ht i_N hown hk.1 hP 0 rfl rfl 6 (by decide) (ht _ mw_1_188) (fun _ h9 => h9) rfl d_N_settle_16 ?_
      refine x_ald hx hb hk hP 4 0 rfl rfl (i := c) (by omega) (by omega) d_N_settle_19 ?_
      refine x_top (z := (nI fc)) (hz) ?_
      refine lv_istore_n (lv' := [(1, .int (nI fc)), (0, .ref h)]) hx hb d_N_settle_20 rfl hl (by decide) rfl (fun ls hl => ?_)
      refine lv_aload_n hx hb d_N_settle_21 rfl (lv_at hl 1 rfl) ?_
      refine va_get (D := D) (cl := classes) (ci := 2) (v := .int 1) (C := "StepMapModel") (T := F_N) (N := 12) hx hb ht i_N hown hk.1 hP 0 rfl rfl 7 (by decide) (ht _ mw_1_189) (fun _ h9 => h9) rfl d_N_settle_22 ?_
      refine lv_if_ne (tgt := 50) hx hb d_N_settle_25 (by decide) (fun _ => ?_) (fun c9 => absurd c9 (by decide))
      refine lv_aload_n hx hb d_N_settle_50 rfl (lv_at hl 1 rfl) ?_
      refine va_get (D := D) (cl := classes) (ci := 2) (v := .int 1) (C := "StepMapModel") (T := F_N) (N := 12) hx hb ht i_N hown hk.1 hP 0 rfl rfl 7 (by decide) (ht _ mw_1_189) (fun _ h9 => h9) rfl d_N_settle_51 ?_
      refine lv_if_ne (tgt := 81) hx hb d_N_settle_54 (by decide) (fun _ => ?_) (fun c9 => absurd c9 (by decide))
      have eS : (stl fc (tb c SS KK VV) oc (tb (1 - c) SS KK VV) cur cnt wk) = (fc, (mvn fc (mvc oc cur) cur (tb c SS KK VV) (tb (1 - c) SS KK VV)).1, oc, (mvn fc (mvc oc cur) cur (tb c SS KK VV) (tb (1 - c) SS KK VV)).2.1, cur + mvc oc cur, cnt, wk) := by unfold stl; rw [if_pos h1, if_pos h2]
      have hM : MRu (stl fc (tb c SS KK VV) oc (tb (1 - c) SS KK VV) cur cnt wk) (c, 1, nI (cur + mvc oc cur), vi + nI ((mvn fc (mvc oc cur) cur (tb c SS KK VV) (tb (1 - c) SS KK VV)).2.2 + mvc oc cur), S1, K1, V1, ZZ) := by rw [eS]; exact ⟨hc2, p1.symm, p2.symm, hz, Or.inl ⟨h2, rfl, rfl, hm3⟩⟩
      have hP : va_P D classes (wU h q cA th hf (stl fc (tb c SS KK VV) oc (tb (1 - c) SS KK VV) cur cnt wk) (c, 1, nI (cur + mvc oc cur), vi + nI ((mvn fc (mvc oc cur) cur (tb c SS KK VV) (tb (1 - c) SS KK VV)).2.2 + mvc oc cur), S1, K1, V1, ZZ)) H := by rw [eS]; exact hP
      have hD : va_D A (wU h q cA th hf (stl fc (tb c SS KK VV) oc (tb (1 - c) SS KK VV) cur cnt wk) (c, 1, nI (cur + mvc oc cur), vi + nI ((mvn fc (mvc oc cur) cur (tb c SS KK VV) (tb (1 - c) SS KK VV)).2.2 + mvc oc cur), S1, K1, V1, ZZ)) := by rw [eS]; exact hD
      exact hret _ _ _ _ _ (c, 1, nI (cur + mvc oc cur), vi + nI ((mvn fc (mvc oc cur) cur (tb c SS KK VV) (tb (1 - c) SS KK VV)).2.2 + mvc oc cur), S1, K1, V1, ZZ) d_N_settle_81 hP hD hS (⟨hM, eW⟩) rfl
    · skip
      rw [if00 h2] at hP hD
      exact sec (hg1 h1 h2) _ _ _ _ _ _ _ _ hP hD hS hl (by unfold stl; rw [if_pos h1, if_neg h2, p1, p2]) eW
  · skip
    subst hm1
    refine lv_aload_n hx hb d_N_settle_0 rfl (lv_at hl 0 rfl) ?_
    refine va_get (D := D) (cl := classes) (ci := 2) (v := .int 0) (C := "StepMapModel") (T := F_N) (N := 12) hx hb ht i_N hown hk.1 hP 0 rfl rfl 7 (by decide) (ht _ mw_1_189) (fun _ h9 => h9) rfl d_N_settle_1 ?_
    refine lv_if_eq (tgt := 11) hx hb d_N_settle_4 (by decide) (fun _ => ?_) (fun c9 => absurd (rfl) c9)
    exact sec (hg2 h1).1 _ _ _ _ _ _ _ _ hP hD hS hl (by unfold stl; rw [if_neg h1]) (by rw [hw]; unfold stw; rw [if_neg h1])
set_option maxHeartbeats 4000000 in
set_option maxRecDepth 100000 in
theorem c_N_isFull (l : Launch) (D : va_G) (cA : ClassId) (h : Nat) (q : Ad) (th : Int32) (hf c : Nat) (mv cq : Int32) (cnt : Nat) (vi wk : Int32) (SS KK VV ZZ : Nat → Int32) (fc oc cur : Nat) (hmr : MR fc (tb c SS KK VV) oc (tb (1 - c) SS KK VV) cur c mv cq SS KK VV ZZ) (hcu : cur ≤ oc) (ho : oc ≤ 1024) (hh : hf ≤ 1024) (hfc : fc ≤ 1024) (hct : cnt ≤ 1023) : Mi l D [(cA, .int)] y_N_isFull b_N_isFull 2 (some .boolean) 0 0 [.ref h] (wN h q cA th (nI hf) (nI c) mv cq (nI cnt) vi wk SS KK VV ZZ) (fun r (_ : Unit) => r = if fullD hf fc oc cur cnt = true then 1 else 0) (fun _ => (wN h q cA th (nI hf) (nI c) mv cq (nI cnt) vi wk SS KK VV ZZ)) := by
  refine mz_start (own := "StepMapModel") (by decide +kernel) rfl (Nat.le_of_ble_eq_true rfl) ?_
  intro p e s m args below meth cd ls A Q hx hb hml hown ht hk hP hD hA hl hret
  have hS : va_S A s.heap s.heap [] := va_S.rf
  have hl : lv_has ls 2 [(0, .ref h)] := hl
  obtain ⟨hc2, -, -, hz, hmo⟩ := hmr
  have no : ¬ fullD hf fc oc cur cnt = true → ∀ (H : Heap) (locs : List Loc) (ls : Array Slot), va_P D classes (wN h q cA th (nI hf) (nI c) mv cq (nI cnt) vi wk SS KK VV ZZ) H → va_D A (wN h q cA th (nI hf) (nI c) mv cq (nI cnt) vi wk SS KK VV ZZ) → va_S A s.heap H locs → W p l e { frames := 0, cells := 0, slots := 0, locals := 0 } s m args below meth cd H locs 0 0 Q (F0 m 81 ls []) := by
    intro hno H locs ls hP hD hS
    refine lv_iconst (v := 0) hx hb d_N_isFull_81 (by decide) ?_
    exact hret _ _ _ _ _ _ () d_N_isFull_82 (Or.inl rfl) hP hD hS ((if00 hno).symm) rfl
  have go : ¬ 4 < oc - cur → ∀ (H : Heap) (locs : List Loc) (ls : Array Slot), va_P D classes (wN h q cA th (nI hf) (nI c) mv cq (nI cnt) vi wk SS KK VV ZZ) H → va_D A (wN h q cA th (nI hf) (nI c) mv cq (nI cnt) vi wk SS KK VV ZZ) → va_S A s.heap H locs → lv_has ls 2 [(0, .ref h)] → W p l e { frames := 0, cells := 0, slots := 0, locals := 0 } s m args below meth cd H locs 0 0 Q (F0 m 31 ls []) := by
    intro q1 H locs ls hP hD hS hl
    refine lv_iconst (v := 0) hx hb d_N_isFull_31 (by decide) ?_
    refine lv_istore_n (lv' := [(1, .int 0), (0, .ref h)]) hx hb d_N_isFull_32 rfl hl (by decide) rfl (fun ls hl => ?_)
    refine lv_iload_n hx hb d_N_isFull_33 rfl (lv_at hl 0 rfl) ?_
    refine lv_if_ne (tgt := 81) hx hb d_N_isFull_34 (by decide) (fun c9 => absurd (rfl) c9) (fun _ => ?_)
    refine lv_iconst (v := 4) hx hb d_N_isFull_37 (by decide) ?_
    refine lv_aload_n hx hb d_N_isFull_38 rfl (lv_at hl 1 rfl) ?_
    refine va_get (D := D) (cl := classes) (ci := 2) (v := .int (nI cnt)) (C := "StepMapModel") (T := F_N) (N := 12) hx hb ht i_N hown hk.1 hP 0 rfl rfl 9 (by decide) (ht _ mw_1_191) (fun _ h9 => h9) rfl d_N_isFull_39 ?_
    refine lv_imul hx hb d_N_isFull_42 ?_
    refine x_top (z := (nI (4 * cnt))) (mul4 cnt) ?_
    refine lv_iconst (v := 4) hx hb d_N_isFull_43 (by decide) ?_
    refine lv_iadd hx hb d_N_isFull_44 ?_
    refine x_top (z := (nI (4 * cnt + 4))) (nI_add _ 4) ?_
    refine lv_iconst (v := 3) hx hb d_N_isFull_45 (by decide) ?_
    refine lv_aload_n hx hb d_N_isFull_46 rfl (lv_at hl 1 rfl) ?_
    refine va_get (D := D) (cl := classes) (ci := 2) (v := .ref q.2.2.2) (C := "StepMapModel") (T := F_N) (N := 12) hx hb ht i_N hown hk.1 hP 0 rfl rfl 5 (by decide) (ht _ mw_1_187) (fun _ h9 => h9) rfl d_N_isFull_47 ?_
    refine lv_aload_n hx hb d_N_isFull_50 rfl (lv_at hl 1 rfl) ?_
    refine va_get (D := D) (cl := classes) (ci := 2) (v := .int (nI c)) (C := "StepMapModel") (T := F_N) (N := 12) hx hb ht i_N hown hk.1 hP 0 rfl rfl 6 (by decide) (ht _ mw_1_188) (fun _ h9 => h9) rfl d_N_isFull_51 ?_
    refine x_ald hx hb hk hP 4 0 rfl rfl (i := c) (by omega) (by omega) d_N_isFull_54 ?_
    refine x_top (z := (nI fc)) (hz) ?_
    refine lv_imul hx hb d_N_isFull_55 ?_
    refine x_top (z := (nI (3 * fc))) (mul3 fc) ?_
    refine lv_icmp_lt (tgt := 81) hx hb d_N_isFull_56 (by decide) (fun x1 => ?_) (fun x1 => ?_)
    · skip
      have q2 := (nI_ltI (by omega) (by omega)).mp x1
      exact no (by simp only [fullD, Bool.and_eq_true, decide_eq_true_eq]; omega) _ _ _ hP hD hS
    · skip
      have q2 : 3 * fc ≤ 4 * cnt + 4 := Nat.le_of_not_lt fun z => x1 (nI_lt z (by omega))
      refine lv_iconst (v := 2) hx hb d_N_isFull_59 (by decide) ?_
      refine lv_aload_n hx hb d_N_isFull_60 rfl (lv_at hl 1 rfl) ?_
      refine va_get (D := D) (cl := classes) (ci := 2) (v := .ref q.2.2.2) (C := "StepMapModel") (T := F_N) (N := 12) hx hb ht i_N hown hk.1 hP 0 rfl rfl 5 (by decide) (ht _ mw_1_187) (fun _ h9 => h9) rfl d_N_isFull_61 ?_
      refine lv_aload_n hx hb d_N_isFull_64 rfl (lv_at hl 1 rfl) ?_
      refine va_get (D := D) (cl := classes) (ci := 2) (v := .int (nI c)) (C := "StepMapModel") (T := F_N) (N := 12) hx hb ht i_N hown hk.1 hP 0 rfl rfl 6 (by decide) (ht _ mw_1_188) (fun _ h9 => h9) rfl d_N_isFull_65 ?_
      refine x_ald hx hb hk hP 4 0 rfl rfl (i := c) (by omega) (by omega) d_N_isFull_68 ?_
      refine x_top (z := (nI fc)) (hz) ?_
      refine lv_imul hx hb d_N_isFull_69 ?_
      refine x_top (z := (nI (2 * fc))) (mul2 fc) ?_
      refine lv_aload_n hx hb d_N_isFull_70 rfl (lv_at hl 1 rfl) ?_
      refine va_get (D := D) (cl := classes) (ci := 2) (v := .int (nI hf)) (C := "StepMapModel") (T := F_N) (N := 12) hx hb ht i_N hown hk.1 hP 0 rfl rfl 1 (by decide) (ht _ mw_1_183) (fun _ h9 => h9) rfl d_N_isFull_71 ?_
      refine lv_icmp_le (tgt := 81) hx hb d_N_isFull_74 (by decide) (fun x2 => ?_) (fun x2 => ?_)
      · skip
        have q3 := (nI_leI (by omega) (by omega)).mp x2
        exact no (by simp only [fullD, Bool.and_eq_true, decide_eq_true_eq]; omega) _ _ _ hP hD hS
      · skip
        have q3 : hf < 2 * fc := Nat.lt_of_not_le fun z => x2 (nI_le z (by omega))
        refine lv_iconst (v := 1) hx hb d_N_isFull_77 (by decide) ?_
        refine lv_goto (tgt := 82) hx hb d_N_isFull_78 (by decide) ?_
        exact hret _ _ _ _ _ _ () d_N_isFull_82 (Or.inr rfl) hP hD hS ((if10 (by simp only [fullD, Bool.and_eq_true, decide_eq_true_eq]; omega)).symm) rfl
  rcases hmo with ⟨h1, hm1, hm2, hm3⟩ | ⟨h1, hm1⟩
  · skip
    refine lv_aload_n hx hb d_N_isFull_0 rfl (lv_at hl 0 rfl) ?_
    refine va_get (D := D) (cl := classes) (ci := 2) (v := .int mv) (C := "StepMapModel") (T := F_N) (N := 12) hx hb ht i_N hown hk.1 hP 0 rfl rfl 7 (by decide) (ht _ mw_1_189) (fun _ h9 => h9) rfl d_N_isFull_1 ?_
    refine lv_if_eq (tgt := 31) hx hb d_N_isFull_4 (by decide) (fun c9 => absurd c9 (fun z => by rw [hm1] at z; exact absurd z (by decide))) (fun _ => ?_)
    refine lv_aload_n hx hb d_N_isFull_7 rfl (lv_at hl 0 rfl) ?_
    refine va_get (D := D) (cl := classes) (ci := 2) (v := .ref q.2.2.2) (C := "StepMapModel") (T := F_N) (N := 12) hx hb ht i_N hown hk.1 hP 0 rfl rfl 5 (by decide) (ht _ mw_1_187) (fun _ h9 => h9) rfl d_N_isFull_8 ?_
    refine lv_iconst (v := 1) hx hb d_N_isFull_11 (by decide) ?_
    refine lv_aload_n hx hb d_N_isFull_12 rfl (lv_at hl 0 rfl) ?_
    refine va_get (D := D) (cl := classes) (ci := 2) (v := .int (nI c)) (C := "StepMapModel") (T := F_N) (N := 12) hx hb ht i_N hown hk.1 hP 0 rfl rfl 6 (by decide) (ht _ mw_1_188) (fun _ h9 => h9) rfl d_N_isFull_13 ?_
    refine lv_isub hx hb d_N_isFull_16 ?_
    refine x_top (z := (nI (1 - c))) (pk_sub (a := 1) (b := c) (by omega)) ?_
    refine x_ald hx hb hk hP 4 0 rfl rfl (i := (1 - c)) (by omega) (by omega) d_N_isFull_17 ?_
    refine x_top (z := (nI oc)) (hm3) ?_
    refine lv_aload_n hx hb d_N_isFull_18 rfl (lv_at hl 0 rfl) ?_
    refine va_get (D := D) (cl := classes) (ci := 2) (v := .int cq) (C := "StepMapModel") (T := F_N) (N := 12) hx hb ht i_N hown hk.1 hP 0 rfl rfl 8 (by decide) (ht _ mw_1_190) (fun _ h9 => h9) rfl d_N_isFull_19 ?_
    refine x_top (z := (nI cur)) (hm2) ?_
    refine lv_isub hx hb d_N_isFull_22 ?_
    refine x_top (z := (nI (oc - cur))) (pk_sub hcu) ?_
    refine lv_iconst (v := 4) hx hb d_N_isFull_23 (by decide) ?_
    refine lv_icmp_le (tgt := 31) hx hb d_N_isFull_24 (by decide) (fun x1 => ?_) (fun x1 => ?_)
    · skip
      have q1 : oc - cur ≤ 4 := (nI_leI (by omega) (by decide)).mp x1
      exact go (by omega) _ _ _ hP hD hS hl
    · skip
      have q1 : 4 < oc - cur := Nat.lt_of_not_le fun q => x1 (nI_le q (by decide))
      refine lv_iconst (v := 1) hx hb d_N_isFull_27 (by decide) ?_
      refine lv_goto (tgt := 32) hx hb d_N_isFull_28 (by decide) ?_
      refine lv_istore_n (lv' := [(1, .int 1), (0, .ref h)]) hx hb d_N_isFull_32 rfl hl (by decide) rfl (fun ls hl => ?_)
      refine lv_iload_n hx hb d_N_isFull_33 rfl (lv_at hl 0 rfl) ?_
      refine lv_if_ne (tgt := 81) hx hb d_N_isFull_34 (by decide) (fun _ => ?_) (fun c9 => absurd c9 (by decide))
      exact no (by simp only [fullD, Bool.and_eq_true, decide_eq_true_eq]; omega) _ _ _ hP hD hS
  · skip
    refine lv_aload_n hx hb d_N_isFull_0 rfl (lv_at hl 0 rfl) ?_
    refine va_get (D := D) (cl := classes) (ci := 2) (v := .int mv) (C := "StepMapModel") (T := F_N) (N := 12) hx hb ht i_N hown hk.1 hP 0 rfl rfl 7 (by decide) (ht _ mw_1_189) (fun _ h9 => h9) rfl d_N_isFull_1 ?_
    refine lv_if_eq (tgt := 31) hx hb d_N_isFull_4 (by decide) (fun _ => ?_) (fun c9 => absurd (hm1) c9)
    exact go (by omega) _ _ _ hP hD hS hl
set_option maxHeartbeats 4000000 in
set_option maxRecDepth 100000 in
theorem c_N_find (l : Launch) (D : va_G) (cA : ClassId) (h : Nat) (q : Ad) (th : Int32) (hf c : Nat) (mv cq : Int32) (cnt : Nat) (vi wk : Int32) (SS KK VV ZZ : Nat → Int32) (fc oc cur : Nat) (k : Int32) (hmr : MR fc (tb c SS KK VV) oc (tb (1 - c) SS KK VV) cur c mv cq SS KK VV ZZ) (hiv : Iv hf fc (tb c SS KK VV) oc (tb (1 - c) SS KK VV) cur cnt) : Mi l D [(cA, .int)] y_N_find b_N_find 4 (some .int) 2 47 [.ref h, .int k] (wN h q cA th (nI hf) (nI c) mv cq (nI cnt) vi wk SS KK VV ZZ) (fun r (_ : Unit) => r = findA fc (tb c SS KK VV) oc (tb (1 - c) SS KK VV) cur c k) (fun _ => (wN h q cA th (nI hf) (nI c) mv cq (nI cnt) (vi + nI (wkc fc (tb c SS KK VV) oc (tb (1 - c) SS KK VV) cur k)) wk SS KK VV ZZ)) := by
  refine mi_start (own := "StepMapModel") (by decide +kernel) rfl (Nat.le_of_ble_eq_true rfl) ?_
  intro p e s m args below meth cd ls A Q hx hb hml hown ht hk hP hD hA hl hret
  have hS : va_S A s.heap s.heap [] := va_S.rf
  have hl : lv_has ls 4 [(0, .ref h), (1, .int k)] := hl
  obtain ⟨hh, hfh, hf8, hcu, ho, hct⟩ := hiv.bounds
  have hpf := hiv.2.1
  have hfo := hiv.lk k
  have hsl := (fsl_spec hpf hfo).1
  have hlk : cur < oc → pw oc ∧ oc ≤ hf ∧ fok oc (tb (1 - c) SS KK VV) k := fun z => ⟨(hiv.old z).1, ho, hiv.lkO z k⟩
  obtain ⟨hc2, -, -, hz, hmo⟩ := hmr
  refine lv_aload_n hx hb d_N_find_0 rfl (lv_at hl 0 rfl) ?_
  refine lv_iload_n hx hb d_N_find_1 rfl (lv_at hl 1 rfl) ?_
  refine lv_aload_n hx hb d_N_find_2 rfl (lv_at hl 0 rfl) ?_
  refine va_get (D := D) (cl := classes) (ci := 2) (v := .int (nI c)) (C := "StepMapModel") (T := F_N) (N := 12) hx hb ht i_N hown hk.1 hP 0 rfl rfl 6 (by decide) (ht _ mw_1_188) (fun _ h9 => h9) rfl d_N_find_3 ?_
  refine xV_i (D := D) (k := 2) (ci := 2) (q := ("StepMapModel", F_N, 12)) (wr := []) (wb := fun u => (wN h q cA th (nI hf) (nI c) mv cq (nI cnt) (vi + nI (fct fc (tb c SS KK VV) k)) wk SS KK VV ZZ)) (rest := []) ⟨hx, hb, hml, hown, ht⟩ (c_N_look l D cA h q th (nI hf) (nI c) mv cq (nI cnt) vi wk SS KK VV ZZ k c fc hpf hc2 hz hfo) gv_N_49 (by decide +kernel) rfl ⟨Nat.le_of_ble_eq_true rfl, Nat.le_of_ble_eq_true rfl⟩ hk hP hD hS hA [0, 1, 2, 3, 4] [] [0, 1, 2, 3, 4] rfl rfl (fun _ => rfl) ⟨rfl, rfl, rfl⟩ (by decide) rfl rfl hl.1 rfl (Nat.le_of_ble_eq_true rfl) d_N_find_6 ⟨Nat.zero_le _, Nat.zero_le _⟩ (fun r u H locs hp hP hD hS => ?_)
  have hp : r = (lookA fc (tb c SS KK VV) k) := hp
  subst hp
  have hP : va_P D classes (wN h q cA th (nI hf) (nI c) mv cq (nI cnt) (vi + nI (fct fc (tb c SS KK VV) k)) wk SS KK VV ZZ) H := hP
  have hD : va_D A (wN h q cA th (nI hf) (nI c) mv cq (nI cnt) (vi + nI (fct fc (tb c SS KK VV) k)) wk SS KK VV ZZ) := hD
  by_cases h1 : sh c SS (fsl fc (tb c SS KK VV) k) = 1
  · skip
    refine x_top (z := (nI (fsl fc (tb c SS KK VV) k))) (if_pos h1) ?_
    refine lv_istore_n (lv' := [(2, .int (nI (fsl fc (tb c SS KK VV) k))), (0, .ref h), (1, .int k)]) hx hb d_N_find_9 rfl hl (by decide) rfl (fun ls hl => ?_)
    refine lv_iload_n hx hb d_N_find_10 rfl (lv_at hl 0 rfl) ?_
    refine lv_if_lt (tgt := 24) hx hb d_N_find_11 (by decide) (fun c9 => absurd c9 (nI_n0 (by omega))) (fun _ => ?_)
    refine lv_aload_n hx hb d_N_find_14 rfl (lv_at hl 1 rfl) ?_
    refine lv_aload_n hx hb d_N_find_15 rfl (lv_at hl 1 rfl) ?_
    refine va_get (D := D) (cl := classes) (ci := 2) (v := .int (nI c)) (C := "StepMapModel") (T := F_N) (N := 12) hx hb ht i_N hown hk.1 hP 0 rfl rfl 6 (by decide) (ht _ mw_1_188) (fun _ h9 => h9) rfl d_N_find_16 ?_
    refine lv_iload_n hx hb d_N_find_19 rfl (lv_at hl 0 rfl) ?_
    refine xV_i (D := D) (k := 2) (ci := 2) (q := ("StepMapModel", F_N, 12)) (wr := []) (wb := fun u => (wN h q cA th (nI hf) (nI c) mv cq (nI cnt) (vi + nI (fct fc (tb c SS KK VV) k)) wk SS KK VV ZZ)) (rest := []) ⟨hx, hb, hml, hown, ht⟩ (c_N_at l D cA h q th (nI hf) (nI c) mv cq (nI cnt) (vi + nI (fct fc (tb c SS KK VV) k)) wk SS KK VV ZZ c (fsl fc (tb c SS KK VV) k)) gv_N_37 (by decide +kernel) rfl ⟨Nat.le_of_ble_eq_true rfl, Nat.le_of_ble_eq_true rfl⟩ hk hP hD hS hA [0, 1, 2, 3, 4] [] [0, 1, 2, 3, 4] rfl rfl (fun _ => rfl) ⟨rfl, rfl, rfl⟩ (by decide) rfl rfl hl.1 rfl (Nat.le_of_ble_eq_true rfl) d_N_find_20 ⟨Nat.zero_le _, Nat.zero_le _⟩ (fun r u H locs hp hP hD hS => ?_)
    have hp : r = (nI (1024 * c + (fsl fc (tb c SS KK VV) k))) := hp
    subst hp
    have hP : va_P D classes (wN h q cA th (nI hf) (nI c) mv cq (nI cnt) (vi + nI (fct fc (tb c SS KK VV) k)) wk SS KK VV ZZ) H := hP
    have hD : va_D A (wN h q cA th (nI hf) (nI c) mv cq (nI cnt) (vi + nI (fct fc (tb c SS KK VV) k)) wk SS KK VV ZZ) := hD
    have e1 : fct fc (tb c SS KK VV) k = wkc fc (tb c SS KK VV) oc (tb (1 - c) SS KK VV) cur k := (if_pos h1).symm
    rw [e1] at hP hD
    exact hret _ _ _ _ _ _ () d_N_find_23 hP hD hS (by unfold findA; rw [if_pos h1]) rfl
  · skip
    refine x_top (z := (-1 - nI (fsl fc (tb c SS KK VV) k))) (if_neg h1) ?_
    refine lv_istore_n (lv' := [(2, .int (-1 - nI (fsl fc (tb c SS KK VV) k))), (0, .ref h), (1, .int k)]) hx hb d_N_find_9 rfl hl (by decide) rfl (fun ls hl => ?_)
    refine lv_iload_n hx hb d_N_find_10 rfl (lv_at hl 0 rfl) ?_
    refine lv_if_lt (tgt := 24) hx hb d_N_find_11 (by decide) (fun _ => ?_) (fun c9 => absurd (m1neg (by omega)) c9)
    rcases hmo with ⟨h2, hm1, hm2, hm3⟩ | ⟨h2, hm1⟩
    · skip
      obtain ⟨hpo, -, hfoo⟩ := hlk h2
      have hslo := (fsl_spec hpo hfoo).1
      refine lv_aload_n hx hb d_N_find_24 rfl (lv_at hl 1 rfl) ?_
      refine va_get (D := D) (cl := classes) (ci := 2) (v := .int mv) (C := "StepMapModel") (T := F_N) (N := 12) hx hb ht i_N hown hk.1 hP 0 rfl rfl 7 (by decide) (ht _ mw_1_189) (fun _ h9 => h9) rfl d_N_find_25 ?_
      refine lv_if_eq (tgt := 45) hx hb d_N_find_28 (by decide) (fun c9 => absurd c9 (fun z => by rw [hm1] at z; exact absurd z (by decide))) (fun _ => ?_)
      refine lv_aload_n hx hb d_N_find_31 rfl (lv_at hl 1 rfl) ?_
      refine lv_iload_n hx hb d_N_find_32 rfl (lv_at hl 2 rfl) ?_
      refine lv_iconst (v := 1) hx hb d_N_find_33 (by decide) ?_
      refine lv_aload_n hx hb d_N_find_34 rfl (lv_at hl 1 rfl) ?_
      refine va_get (D := D) (cl := classes) (ci := 2) (v := .int (nI c)) (C := "StepMapModel") (T := F_N) (N := 12) hx hb ht i_N hown hk.1 hP 0 rfl rfl 6 (by decide) (ht _ mw_1_188) (fun _ h9 => h9) rfl d_N_find_35 ?_
      refine lv_isub hx hb d_N_find_38 ?_
      refine x_top (z := (nI (1 - c))) (pk_sub (a := 1) (b := c) (by omega)) ?_
      refine xV_i (D := D) (k := 2) (ci := 2) (q := ("StepMapModel", F_N, 12)) (wr := []) (wb := fun u => (wN h q cA th (nI hf) (nI c) mv cq (nI cnt) (vi + nI (fct fc (tb c SS KK VV) k) + nI (fct oc (tb (1 - c) SS KK VV) k)) wk SS KK VV ZZ)) (rest := []) ⟨hx, hb, hml, hown, ht⟩ (c_N_look l D cA h q th (nI hf) (nI c) mv cq (nI cnt) (vi + nI (fct fc (tb c SS KK VV) k)) wk SS KK VV ZZ k (1 - c) oc hpo (by omega) hm3 hfoo) gv_N_49 (by decide +kernel) rfl ⟨Nat.le_of_ble_eq_true rfl, Nat.le_of_ble_eq_true rfl⟩ hk hP hD hS hA [0, 1, 2, 3, 4] [] [0, 1, 2, 3, 4] rfl rfl (fun _ => rfl) ⟨rfl, rfl, rfl⟩ (by decide) rfl rfl hl.1 rfl (Nat.le_of_ble_eq_true rfl) d_N_find_39 ⟨Nat.zero_le _, Nat.zero_le _⟩ (fun r u H locs hp hP hD hS => ?_)
      have hp : r = (lookA oc (tb (1 - c) SS KK VV) k) := hp
      subst hp
      have hP : va_P D classes (wN h q cA th (nI hf) (nI c) mv cq (nI cnt) (vi + nI (fct fc (tb c SS KK VV) k) + nI (fct oc (tb (1 - c) SS KK VV) k)) wk SS KK VV ZZ) H := hP
      have hD : va_D A (wN h q cA th (nI hf) (nI c) mv cq (nI cnt) (vi + nI (fct fc (tb c SS KK VV) k) + nI (fct oc (tb (1 - c) SS KK VV) k)) wk SS KK VV ZZ) := hD
      have e1 : vi + nI (fct fc (tb c SS KK VV) k) + nI (fct oc (tb (1 - c) SS KK VV) k) = vi + nI (wkc fc (tb c SS KK VV) oc (tb (1 - c) SS KK VV) cur k) := by unfold wkc; rw [if_neg h1, if_pos h2, Int32.add_assoc, nI_add]
      rw [e1] at hP hD
      by_cases h3 : sh (1 - c) SS (fsl oc (tb (1 - c) SS KK VV) k) = 1
      · skip
        refine x_top (z := (nI (fsl oc (tb (1 - c) SS KK VV) k))) (if_pos h3) ?_
        refine lv_goto (tgt := 46) hx hb d_N_find_42 (by decide) ?_
        refine lv_istore_n (lv' := [(3, .int (nI (fsl oc (tb (1 - c) SS KK VV) k))), (2, .int (-1 - nI (fsl fc (tb c SS KK VV) k))), (0, .ref h), (1, .int k)]) hx hb d_N_find_46 rfl hl (by decide) rfl (fun ls hl => ?_)
        refine lv_iload_n hx hb d_N_find_47 rfl (lv_at hl 0 rfl) ?_
        refine lv_if_ge (tgt := 55) hx hb d_N_find_48 (by decide) (fun _ => ?_) (fun c9 => absurd (nI_pos' (by omega)) c9)
        refine lv_aload_n hx hb d_N_find_55 rfl (lv_at hl 2 rfl) ?_
        refine lv_iconst (v := 1) hx hb d_N_find_56 (by decide) ?_
        refine lv_aload_n hx hb d_N_find_57 rfl (lv_at hl 2 rfl) ?_
        refine va_get (D := D) (cl := classes) (ci := 2) (v := .int (nI c)) (C := "StepMapModel") (T := F_N) (N := 12) hx hb ht i_N hown hk.1 hP 0 rfl rfl 6 (by decide) (ht _ mw_1_188) (fun _ h9 => h9) rfl d_N_find_58 ?_
        refine lv_isub hx hb d_N_find_61 ?_
        refine x_top (z := (nI (1 - c))) (pk_sub (a := 1) (b := c) (by omega)) ?_
        refine lv_iload_n hx hb d_N_find_62 rfl (lv_at hl 0 rfl) ?_
        refine xV_i (D := D) (k := 2) (ci := 2) (q := ("StepMapModel", F_N, 12)) (wr := []) (wb := fun u => (wN h q cA th (nI hf) (nI c) mv cq (nI cnt) (vi + nI (wkc fc (tb c SS KK VV) oc (tb (1 - c) SS KK VV) cur k)) wk SS KK VV ZZ)) (rest := []) ⟨hx, hb, hml, hown, ht⟩ (c_N_at l D cA h q th (nI hf) (nI c) mv cq (nI cnt) (vi + nI (wkc fc (tb c SS KK VV) oc (tb (1 - c) SS KK VV) cur k)) wk SS KK VV ZZ (1 - c) (fsl oc (tb (1 - c) SS KK VV) k)) gv_N_37 (by decide +kernel) rfl ⟨Nat.le_of_ble_eq_true rfl, Nat.le_of_ble_eq_true rfl⟩ hk hP hD hS hA [0, 1, 2, 3, 4] [] [0, 1, 2, 3, 4] rfl rfl (fun _ => rfl) ⟨rfl, rfl, rfl⟩ (by decide) rfl rfl hl.1 rfl (Nat.le_of_ble_eq_true rfl) d_N_find_63 ⟨Nat.zero_le _, Nat.zero_le _⟩ (fun r u H locs hp hP hD hS => ?_)
        have hp : r = (nI (1024 * (1 - c) + (fsl oc (tb (1 - c) SS KK VV) k))) := hp
        subst hp
        have hP : va_P D classes (wN h q cA th (nI hf) (nI c) mv cq (nI cnt) (vi + nI (wkc fc (tb c SS KK VV) oc (tb (1 - c) SS KK VV) cur k)) wk SS KK VV ZZ) H := hP
        have hD : va_D A (wN h q cA th (nI hf) (nI c) mv cq (nI cnt) (vi + nI (wkc fc (tb c SS KK VV) oc (tb (1 - c) SS KK VV) cur k)) wk SS KK VV ZZ) := hD
        exact hret _ _ _ _ _ _ () d_N_find_66 hP hD hS (by unfold findA; rw [if_neg h1, if_pos ⟨h2, h3⟩]) rfl
      · skip
        refine x_top (z := (-1 - nI (fsl oc (tb (1 - c) SS KK VV) k))) (if_neg h3) ?_
        refine lv_goto (tgt := 46) hx hb d_N_find_42 (by decide) ?_
        refine lv_istore_n (lv' := [(3, .int (-1 - nI (fsl oc (tb (1 - c) SS KK VV) k))), (2, .int (-1 - nI (fsl fc (tb c SS KK VV) k))), (0, .ref h), (1, .int k)]) hx hb d_N_find_46 rfl hl (by decide) rfl (fun ls hl => ?_)
        refine lv_iload_n hx hb d_N_find_47 rfl (lv_at hl 0 rfl) ?_
        refine lv_if_ge (tgt := 55) hx hb d_N_find_48 (by decide) (fun c9 => absurd c9 (fun z => by have := m1neg (n := fsl oc (tb (1 - c) SS KK VV) k) (by omega); rw [Int32.lt_iff_toInt_lt] at this; rw [Int32.le_iff_toInt_le] at z; omega)) (fun _ => ?_)
        refine lv_iconst (v := (-1)) hx hb d_N_find_51 (by decide) ?_
        refine lv_goto (tgt := 66) hx hb d_N_find_52 (by decide) ?_
        exact hret _ _ _ _ _ _ () d_N_find_66 hP hD hS (by unfold findA; rw [if_neg h1, if_neg (fun z => h3 z.2)]) rfl
    · skip
      have e1 : fct fc (tb c SS KK VV) k = wkc fc (tb c SS KK VV) oc (tb (1 - c) SS KK VV) cur k := by unfold wkc; rw [if_neg h1, if_neg h2]; rfl
      rw [e1] at hP hD
      refine lv_aload_n hx hb d_N_find_24 rfl (lv_at hl 1 rfl) ?_
      refine va_get (D := D) (cl := classes) (ci := 2) (v := .int mv) (C := "StepMapModel") (T := F_N) (N := 12) hx hb ht i_N hown hk.1 hP 0 rfl rfl 7 (by decide) (ht _ mw_1_189) (fun _ h9 => h9) rfl d_N_find_25 ?_
      refine lv_if_eq (tgt := 45) hx hb d_N_find_28 (by decide) (fun _ => ?_) (fun c9 => absurd (hm1) c9)
      refine lv_iconst (v := (-1)) hx hb d_N_find_45 (by decide) ?_
      refine lv_istore_n (lv' := [(3, .int (-1)), (2, .int (-1 - nI (fsl fc (tb c SS KK VV) k))), (0, .ref h), (1, .int k)]) hx hb d_N_find_46 rfl hl (by decide) rfl (fun ls hl => ?_)
      refine lv_iload_n hx hb d_N_find_47 rfl (lv_at hl 0 rfl) ?_
      refine lv_if_ge (tgt := 55) hx hb d_N_find_48 (by decide) (fun c9 => absurd c9 (by decide)) (fun _ => ?_)
      refine lv_iconst (v := (-1)) hx hb d_N_find_51 (by decide) ?_
      refine lv_goto (tgt := 66) hx hb d_N_find_52 (by decide) ?_
      exact hret _ _ _ _ _ _ () d_N_find_66 hP hD hS (by unfold findA; rw [if_neg h1, if_neg (fun z => h2 z.1)]) rfl
end
section
set_option maxHeartbeats 4000000 in
set_option maxRecDepth 100000 in
theorem c_N_get (l : Launch) (D : va_G) (cA : ClassId) (h : Nat) (q : Ad) (th : Int32) (hf c : Nat) (mv cq : Int32) (cnt : Nat) (vi wk : Int32) (SS KK VV ZZ : Nat → Int32) (fc oc cur : Nat) (k : Int32) (hmr : MR fc (tb c SS KK VV) oc (tb (1 - c) SS KK VV) cur c mv cq SS KK VV ZZ) (hiv : Iv hf fc (tb c SS KK VV) oc (tb (1 - c) SS KK VV) cur cnt) : Mi l D [(cA, .int)] y_N_get b_N_get 3 (some .int) 3 70 [.ref h, .int k] (wN h q cA th (nI hf) (nI c) mv cq (nI cnt) vi wk SS KK VV ZZ) (fun r (u : Un) => r = ogetA fc (tb c SS KK VV) oc (tb (1 - c) SS KK VV) cur k ∧ MRu (fc, (tb c SS KK VV), oc, (tb (1 - c) SS KK VV), cur, cnt, nI (wkc fc (tb c SS KK VV) oc (tb (1 - c) SS KK VV) cur k)) u) (fun u => wU h q cA 0 hf (fc, (tb c SS KK VV), oc, (tb (1 - c) SS KK VV), cur, cnt, nI (wkc fc (tb c SS KK VV) oc (tb (1 - c) SS KK VV) cur k)) u) := by
  refine mi_start (own := "StepMapModel") (by decide +kernel) rfl (Nat.le_of_ble_eq_true rfl) ?_
  intro p e s m args below meth cd ls A Q hx hb hml hown ht hk hP hD hA hl hret
  have hS : va_S A s.heap s.heap [] := va_S.rf
  have hl : lv_has ls 3 [(0, .ref h), (1, .int k)] := hl
  obtain ⟨hh, hfh, hf8, hcu, ho, hct⟩ := hiv.bounds
  have hpf := hiv.2.1
  have hfo := hiv.lk k
  have hsl := (fsl_spec hpf hfo).1
  have hlk : cur < oc → pw oc ∧ oc ≤ hf ∧ fok oc (tb (1 - c) SS KK VV) k := fun z => ⟨(hiv.old z).1, ho, hiv.lkO z k⟩
  obtain ⟨hc2, -, -, hz, hmo⟩ := id hmr
  have hcc : ¬ c = 1 - c := by omega
  have hcc2 : ¬ 1 - c = c := by omega
  have hs4 : (fsl fc (tb c SS KK VV) k) < 1024 := by omega
  refine lv_aload_n hx hb d_N_get_0 rfl (lv_at hl 0 rfl) ?_
  refine lv_iconst (v := 0) hx hb d_N_get_1 (by decide) ?_
  refine va_put (D := D) (cl := classes) (ci := 2) (v := .int 0) (ty := .int) (C := "StepMapModel") (T := F_N) (N := 12) hx hb ht i_N tt_N tt_N_ok n_N hown hk.1 hP hD hS 0 rfl rfl 0 (by decide) (ht _ mw_1_182) (fun _ h9 => h9) rfl (by decide +kernel) rfl rfl (Nat.le_of_ble_eq_true rfl) d_N_get_2 (fun H locs hP hD hS => ?_)
  have hP : va_P D classes (wN h q cA 0 (nI hf) (nI c) mv cq (nI cnt) vi wk SS KK VV ZZ) H := hP
  have hD : va_D A (wN h q cA 0 (nI hf) (nI c) mv cq (nI cnt) vi wk SS KK VV ZZ) := hD
  refine lv_aload_n hx hb d_N_get_5 rfl (lv_at hl 0 rfl) ?_
  refine lv_iconst (v := 0) hx hb d_N_get_6 (by decide) ?_
  refine va_put (D := D) (cl := classes) (ci := 2) (v := .int 0) (ty := .int) (C := "StepMapModel") (T := F_N) (N := 12) hx hb ht i_N tt_N tt_N_ok n_N hown hk.1 hP hD hS 0 rfl rfl 10 (by decide) (ht _ mw_1_192) (fun _ h9 => h9) rfl (by decide +kernel) rfl rfl (Nat.le_of_ble_eq_true rfl) d_N_get_7 (fun H locs hP hD hS => ?_)
  have hP : va_P D classes (wN h q cA 0 (nI hf) (nI c) mv cq (nI cnt) 0 wk SS KK VV ZZ) H := hP
  have hD : va_D A (wN h q cA 0 (nI hf) (nI c) mv cq (nI cnt) 0 wk SS KK VV ZZ) := hD
  refine lv_aload_n hx hb d_N_get_10 rfl (lv_at hl 0 rfl) ?_
  refine lv_iload_n hx hb d_N_get_11 rfl (lv_at hl 1 rfl) ?_
  refine xV_i (D := D) (k := 1) (ci := 2) (q := ("StepMapModel", F_N, 12)) (wr := []) (wb := fun u => (wN h q cA 0 (nI hf) (nI c) mv cq (nI cnt) (0 + nI (wkc fc (tb c SS KK VV) oc (tb (1 - c) SS KK VV) cur k)) wk SS KK VV ZZ)) (rest := []) ⟨hx, hb, hml, hown, ht⟩ (c_N_find l D cA h q 0 hf c mv cq cnt 0 wk SS KK VV ZZ fc oc cur k hmr hiv) gv_N_81 (by decide +kernel) rfl ⟨Nat.le_of_ble_eq_true rfl, Nat.le_of_ble_eq_true rfl⟩ hk hP hD hS hA [0, 1, 2, 3, 4] [] [0, 1, 2, 3, 4] rfl rfl (fun _ => rfl) ⟨rfl, rfl, rfl⟩ (by decide) rfl rfl hl.1 rfl (Nat.le_of_ble_eq_true rfl) d_N_get_12 ⟨Nat.zero_le _, Nat.zero_le _⟩ (fun r u H locs hp hP hD hS => ?_)
  have hp : r = (findA fc (tb c SS KK VV) oc (tb (1 - c) SS KK VV) cur c k) := hp
  subst hp
  have hP : va_P D classes (wN h q cA 0 (nI hf) (nI c) mv cq (nI cnt) (0 + nI (wkc fc (tb c SS KK VV) oc (tb (1 - c) SS KK VV) cur k)) wk SS KK VV ZZ) H := hP
  have hD : va_D A (wN h q cA 0 (nI hf) (nI c) mv cq (nI cnt) (0 + nI (wkc fc (tb c SS KK VV) oc (tb (1 - c) SS KK VV) cur k)) wk SS KK VV ZZ) := hD
  by_cases h1 : sh c SS (fsl fc (tb c SS KK VV) k) = 1
  · skip
    refine x_top (z := (nI (1024 * c + (fsl fc (tb c SS KK VV) k)))) (if_pos h1) ?_
    refine lv_istore_n (lv' := [(2, .int (nI (1024 * c + (fsl fc (tb c SS KK VV) k)))), (0, .ref h), (1, .int k)]) hx hb d_N_get_15 rfl hl (by decide) rfl (fun ls hl => ?_)
    refine lv_aload_n hx hb d_N_get_16 rfl (lv_at hl 1 rfl) ?_
    refine lv_aload_n hx hb d_N_get_17 rfl (lv_at hl 1 rfl) ?_
    refine va_get (D := D) (cl := classes) (ci := 2) (v := .int (0 + nI (wkc fc (tb c SS KK VV) oc (tb (1 - c) SS KK VV) cur k))) (C := "StepMapModel") (T := F_N) (N := 12) hx hb ht i_N hown hk.1 hP 0 rfl rfl 10 (by decide) (ht _ mw_1_192) (fun _ h9 => h9) rfl d_N_get_18 ?_
    refine va_put (D := D) (cl := classes) (ci := 2) (v := .int (0 + nI (wkc fc (tb c SS KK VV) oc (tb (1 - c) SS KK VV) cur k))) (ty := .int) (C := "StepMapModel") (T := F_N) (N := 12) hx hb ht i_N tt_N tt_N_ok n_N hown hk.1 hP hD hS 0 rfl rfl 11 (by decide) (ht _ mw_1_193) (fun _ h9 => h9) rfl (by decide +kernel) rfl rfl (Nat.le_of_ble_eq_true rfl) d_N_get_21 (fun H locs hP hD hS => ?_)
    have hP : va_P D classes (wN h q cA 0 (nI hf) (nI c) mv cq (nI cnt) (0 + nI (wkc fc (tb c SS KK VV) oc (tb (1 - c) SS KK VV) cur k)) (0 + nI (wkc fc (tb c SS KK VV) oc (tb (1 - c) SS KK VV) cur k)) SS KK VV ZZ) H := hP
    have hD : va_D A (wN h q cA 0 (nI hf) (nI c) mv cq (nI cnt) (0 + nI (wkc fc (tb c SS KK VV) oc (tb (1 - c) SS KK VV) cur k)) (0 + nI (wkc fc (tb c SS KK VV) oc (tb (1 - c) SS KK VV) cur k)) SS KK VV ZZ) := hD
    refine lv_iload_n hx hb d_N_get_24 rfl (lv_at hl 0 rfl) ?_
    refine lv_if_ge (tgt := 32) hx hb d_N_get_25 (by decide) (fun _ => ?_) (fun c9 => absurd (nI_pos' (by omega)) c9)
    refine lv_aload_n hx hb d_N_get_32 rfl (lv_at hl 1 rfl) ?_
    refine va_get (D := D) (cl := classes) (ci := 2) (v := .ref q.2.2.1) (C := "StepMapModel") (T := F_N) (N := 12) hx hb ht i_N hown hk.1 hP 0 rfl rfl 4 (by decide) (ht _ mw_1_186) (fun _ h9 => h9) rfl d_N_get_33 ?_
    refine lv_iload_n hx hb d_N_get_36 rfl (lv_at hl 0 rfl) ?_
    refine x_ald hx hb hk hP 3 0 rfl rfl (i := (1024 * c + (fsl fc (tb c SS KK VV) k))) (by omega) (by omega) d_N_get_37 ?_
    refine x_top (z := (sh c VV (fsl fc (tb c SS KK VV) k))) ((sh_at VV hs4).symm) ?_
    have hM : MRu (fc, (tb c SS KK VV), oc, (tb (1 - c) SS KK VV), cur, cnt, nI (wkc fc (tb c SS KK VV) oc (tb (1 - c) SS KK VV) cur k)) (c, mv, cq, (0 + nI (wkc fc (tb c SS KK VV) oc (tb (1 - c) SS KK VV) cur k)), SS, KK, VV, ZZ) := hmr
    rw [i0a (nI (wkc fc (tb c SS KK VV) oc (tb (1 - c) SS KK VV) cur k))] at hP hD
    exact hret _ _ _ _ _ _ (c, mv, cq, nI (wkc fc (tb c SS KK VV) oc (tb (1 - c) SS KK VV) cur k), SS, KK, VV, ZZ) d_N_get_38 hP hD hS (⟨(by unfold ogetA; rw [if_pos h1]), hM⟩) rfl
  · skip
    by_cases h2 : inO oc (tb (1 - c) SS KK VV) cur k
    · skip
      have hoo := hlk h2.1
      have hslo := (fsl_spec hoo.1 hoo.2.2).1
      have ho4 : (fsl oc (tb (1 - c) SS KK VV) k) < 1024 := by omega
      refine x_top (z := (nI (1024 * (1 - c) + (fsl oc (tb (1 - c) SS KK VV) k)))) ((if_neg h1).trans (if_pos h2)) ?_
      refine lv_istore_n (lv' := [(2, .int (nI (1024 * (1 - c) + (fsl oc (tb (1 - c) SS KK VV) k)))), (0, .ref h), (1, .int k)]) hx hb d_N_get_15 rfl hl (by decide) rfl (fun ls hl => ?_)
      refine lv_aload_n hx hb d_N_get_16 rfl (lv_at hl 1 rfl) ?_
      refine lv_aload_n hx hb d_N_get_17 rfl (lv_at hl 1 rfl) ?_
      refine va_get (D := D) (cl := classes) (ci := 2) (v := .int (0 + nI (wkc fc (tb c SS KK VV) oc (tb (1 - c) SS KK VV) cur k))) (C := "StepMapModel") (T := F_N) (N := 12) hx hb ht i_N hown hk.1 hP 0 rfl rfl 10 (by decide) (ht _ mw_1_192) (fun _ h9 => h9) rfl d_N_get_18 ?_
      refine va_put (D := D) (cl := classes) (ci := 2) (v := .int (0 + nI (wkc fc (tb c SS KK VV) oc (tb (1 - c) SS KK VV) cur k))) (ty := .int) (C := "StepMapModel") (T := F_N) (N := 12) hx hb ht i_N tt_N tt_N_ok n_N hown hk.1 hP hD hS 0 rfl rfl 11 (by decide) (ht _ mw_1_193) (fun _ h9 => h9) rfl (by decide +kernel) rfl rfl (Nat.le_of_ble_eq_true rfl) d_N_get_21 (fun H locs hP hD hS => ?_)
      have hP : va_P D classes (wN h q cA 0 (nI hf) (nI c) mv cq (nI cnt) (0 + nI (wkc fc (tb c SS KK VV) oc (tb (1 - c) SS KK VV) cur k)) (0 + nI (wkc fc (tb c SS KK VV) oc (tb (1 - c) SS KK VV) cur k)) SS KK VV ZZ) H := hP
      have hD : va_D A (wN h q cA 0 (nI hf) (nI c) mv cq (nI cnt) (0 + nI (wkc fc (tb c SS KK VV) oc (tb (1 - c) SS KK VV) cur k)) (0 + nI (wkc fc (tb c SS KK VV) oc (tb (1 - c) SS KK VV) cur k)) SS KK VV ZZ) := hD
      refine lv_iload_n hx hb d_N_get_24 rfl (lv_at hl 0 rfl) ?_
      refine lv_if_ge (tgt := 32) hx hb d_N_get_25 (by decide) (fun _ => ?_) (fun c9 => absurd (nI_pos' (by omega)) c9)
      refine lv_aload_n hx hb d_N_get_32 rfl (lv_at hl 1 rfl) ?_
      refine va_get (D := D) (cl := classes) (ci := 2) (v := .ref q.2.2.1) (C := "StepMapModel") (T := F_N) (N := 12) hx hb ht i_N hown hk.1 hP 0 rfl rfl 4 (by decide) (ht _ mw_1_186) (fun _ h9 => h9) rfl d_N_get_33 ?_
      refine lv_iload_n hx hb d_N_get_36 rfl (lv_at hl 0 rfl) ?_
      refine x_ald hx hb hk hP 3 0 rfl rfl (i := (1024 * (1 - c) + (fsl oc (tb (1 - c) SS KK VV) k))) (by omega) (by omega) d_N_get_37 ?_
      refine x_top (z := (sh (1 - c) VV (fsl oc (tb (1 - c) SS KK VV) k))) ((sh_at VV ho4).symm) ?_
      have hM : MRu (fc, (tb c SS KK VV), oc, (tb (1 - c) SS KK VV), cur, cnt, nI (wkc fc (tb c SS KK VV) oc (tb (1 - c) SS KK VV) cur k)) (c, mv, cq, (0 + nI (wkc fc (tb c SS KK VV) oc (tb (1 - c) SS KK VV) cur k)), SS, KK, VV, ZZ) := hmr
      rw [i0a (nI (wkc fc (tb c SS KK VV) oc (tb (1 - c) SS KK VV) cur k))] at hP hD
      exact hret _ _ _ _ _ _ (c, mv, cq, nI (wkc fc (tb c SS KK VV) oc (tb (1 - c) SS KK VV) cur k), SS, KK, VV, ZZ) d_N_get_38 hP hD hS (⟨(by unfold ogetA; rw [if_neg h1, if_pos h2]), hM⟩) rfl
    · skip
      refine x_top (z := (-1)) ((if_neg h1).trans (if_neg h2)) ?_
      refine lv_istore_n (lv' := [(2, .int (-1)), (0, .ref h), (1, .int k)]) hx hb d_N_get_15 rfl hl (by decide) rfl (fun ls hl => ?_)
      refine lv_aload_n hx hb d_N_get_16 rfl (lv_at hl 1 rfl) ?_
      refine lv_aload_n hx hb d_N_get_17 rfl (lv_at hl 1 rfl) ?_
      refine va_get (D := D) (cl := classes) (ci := 2) (v := .int (0 + nI (wkc fc (tb c SS KK VV) oc (tb (1 - c) SS KK VV) cur k))) (C := "StepMapModel") (T := F_N) (N := 12) hx hb ht i_N hown hk.1 hP 0 rfl rfl 10 (by decide) (ht _ mw_1_192) (fun _ h9 => h9) rfl d_N_get_18 ?_
      refine va_put (D := D) (cl := classes) (ci := 2) (v := .int (0 + nI (wkc fc (tb c SS KK VV) oc (tb (1 - c) SS KK VV) cur k))) (ty := .int) (C := "StepMapModel") (T := F_N) (N := 12) hx hb ht i_N tt_N tt_N_ok n_N hown hk.1 hP hD hS 0 rfl rfl 11 (by decide) (ht _ mw_1_193) (fun _ h9 => h9) rfl (by decide +kernel) rfl rfl (Nat.le_of_ble_eq_true rfl) d_N_get_21 (fun H locs hP hD hS => ?_)
      have hP : va_P D classes (wN h q cA 0 (nI hf) (nI c) mv cq (nI cnt) (0 + nI (wkc fc (tb c SS KK VV) oc (tb (1 - c) SS KK VV) cur k)) (0 + nI (wkc fc (tb c SS KK VV) oc (tb (1 - c) SS KK VV) cur k)) SS KK VV ZZ) H := hP
      have hD : va_D A (wN h q cA 0 (nI hf) (nI c) mv cq (nI cnt) (0 + nI (wkc fc (tb c SS KK VV) oc (tb (1 - c) SS KK VV) cur k)) (0 + nI (wkc fc (tb c SS KK VV) oc (tb (1 - c) SS KK VV) cur k)) SS KK VV ZZ) := hD
      refine lv_iload_n hx hb d_N_get_24 rfl (lv_at hl 0 rfl) ?_
      refine lv_if_ge (tgt := 32) hx hb d_N_get_25 (by decide) (fun c9 => absurd c9 (by decide)) (fun _ => ?_)
      refine lv_iconst (v := 0) hx hb d_N_get_28 (by decide) ?_
      refine lv_goto (tgt := 38) hx hb d_N_get_29 (by decide) ?_
      have hM : MRu (fc, (tb c SS KK VV), oc, (tb (1 - c) SS KK VV), cur, cnt, nI (wkc fc (tb c SS KK VV) oc (tb (1 - c) SS KK VV) cur k)) (c, mv, cq, (0 + nI (wkc fc (tb c SS KK VV) oc (tb (1 - c) SS KK VV) cur k)), SS, KK, VV, ZZ) := hmr
      rw [i0a (nI (wkc fc (tb c SS KK VV) oc (tb (1 - c) SS KK VV) cur k))] at hP hD
      exact hret _ _ _ _ _ _ (c, mv, cq, nI (wkc fc (tb c SS KK VV) oc (tb (1 - c) SS KK VV) cur k), SS, KK, VV, ZZ) d_N_get_38 hP hD hS (⟨(by unfold ogetA; rw [if_neg h1, if_neg h2]), hM⟩) rfl
set_option maxHeartbeats 4000000 in
set_option maxRecDepth 100000 in
theorem c_N_has (l : Launch) (D : va_G) (cA : ClassId) (h : Nat) (q : Ad) (th : Int32) (hf c : Nat) (mv cq : Int32) (cnt : Nat) (vi wk : Int32) (SS KK VV ZZ : Nat → Int32) (fc oc cur : Nat) (k : Int32) (hmr : MR fc (tb c SS KK VV) oc (tb (1 - c) SS KK VV) cur c mv cq SS KK VV ZZ) (hiv : Iv hf fc (tb c SS KK VV) oc (tb (1 - c) SS KK VV) cur cnt) : Mi l D [(cA, .int)] y_N_has b_N_has 3 (some .boolean) 3 70 [.ref h, .int k] (wN h q cA th (nI hf) (nI c) mv cq (nI cnt) vi wk SS KK VV ZZ) (fun r (u : Un) => r = oremA fc (tb c SS KK VV) oc (tb (1 - c) SS KK VV) cur k ∧ MRu (fc, (tb c SS KK VV), oc, (tb (1 - c) SS KK VV), cur, cnt, nI (wkc fc (tb c SS KK VV) oc (tb (1 - c) SS KK VV) cur k)) u) (fun u => wU h q cA 0 hf (fc, (tb c SS KK VV), oc, (tb (1 - c) SS KK VV), cur, cnt, nI (wkc fc (tb c SS KK VV) oc (tb (1 - c) SS KK VV) cur k)) u) := by
  refine mz_start (own := "StepMapModel") (by decide +kernel) rfl (Nat.le_of_ble_eq_true rfl) ?_
  intro p e s m args below meth cd ls A Q hx hb hml hown ht hk hP hD hA hl hret
  have hS : va_S A s.heap s.heap [] := va_S.rf
  have hl : lv_has ls 3 [(0, .ref h), (1, .int k)] := hl
  obtain ⟨hh, hfh, hf8, hcu, ho, hct⟩ := hiv.bounds
  have hpf := hiv.2.1
  have hfo := hiv.lk k
  have hsl := (fsl_spec hpf hfo).1
  have hlk : cur < oc → pw oc ∧ oc ≤ hf ∧ fok oc (tb (1 - c) SS KK VV) k := fun z => ⟨(hiv.old z).1, ho, hiv.lkO z k⟩
  obtain ⟨hc2, -, -, hz, hmo⟩ := id hmr
  have hcc : ¬ c = 1 - c := by omega
  have hcc2 : ¬ 1 - c = c := by omega
  have hs4 : (fsl fc (tb c SS KK VV) k) < 1024 := by omega
  refine lv_aload_n hx hb d_N_has_0 rfl (lv_at hl 0 rfl) ?_
  refine lv_iconst (v := 0) hx hb d_N_has_1 (by decide) ?_
  refine va_put (D := D) (cl := classes) (ci := 2) (v := .int 0) (ty := .int) (C := "StepMapModel") (T := F_N) (N := 12) hx hb ht i_N tt_N tt_N_ok n_N hown hk.1 hP hD hS 0 rfl rfl 0 (by decide) (ht _ mw_1_182) (fun _ h9 => h9) rfl (by decide +kernel) rfl rfl (Nat.le_of_ble_eq_true rfl) d_N_has_2 (fun H locs hP hD hS => ?_)
  have hP : va_P D classes (wN h q cA 0 (nI hf) (nI c) mv cq (nI cnt) vi wk SS KK VV ZZ) H := hP
  have hD : va_D A (wN h q cA 0 (nI hf) (nI c) mv cq (nI cnt) vi wk SS KK VV ZZ) := hD
  refine lv_aload_n hx hb d_N_has_5 rfl (lv_at hl 0 rfl) ?_
  refine lv_iconst (v := 0) hx hb d_N_has_6 (by decide) ?_
  refine va_put (D := D) (cl := classes) (ci := 2) (v := .int 0) (ty := .int) (C := "StepMapModel") (T := F_N) (N := 12) hx hb ht i_N tt_N tt_N_ok n_N hown hk.1 hP hD hS 0 rfl rfl 10 (by decide) (ht _ mw_1_192) (fun _ h9 => h9) rfl (by decide +kernel) rfl rfl (Nat.le_of_ble_eq_true rfl) d_N_has_7 (fun H locs hP hD hS => ?_)
  have hP : va_P D classes (wN h q cA 0 (nI hf) (nI c) mv cq (nI cnt) 0 wk SS KK VV ZZ) H := hP
  have hD : va_D A (wN h q cA 0 (nI hf) (nI c) mv cq (nI cnt) 0 wk SS KK VV ZZ) := hD
  refine lv_aload_n hx hb d_N_has_10 rfl (lv_at hl 0 rfl) ?_
  refine lv_iload_n hx hb d_N_has_11 rfl (lv_at hl 1 rfl) ?_
  refine xV_i (D := D) (k := 1) (ci := 2) (q := ("StepMapModel", F_N, 12)) (wr := []) (wb := fun u => (wN h q cA 0 (nI hf) (nI c) mv cq (nI cnt) (0 + nI (wkc fc (tb c SS KK VV) oc (tb (1 - c) SS KK VV) cur k)) wk SS KK VV ZZ)) (rest := []) ⟨hx, hb, hml, hown, ht⟩ (c_N_find l D cA h q 0 hf c mv cq cnt 0 wk SS KK VV ZZ fc oc cur k hmr hiv) gv_N_81 (by decide +kernel) rfl ⟨Nat.le_of_ble_eq_true rfl, Nat.le_of_ble_eq_true rfl⟩ hk hP hD hS hA [0, 1, 2, 3, 4] [] [0, 1, 2, 3, 4] rfl rfl (fun _ => rfl) ⟨rfl, rfl, rfl⟩ (by decide) rfl rfl hl.1 rfl (Nat.le_of_ble_eq_true rfl) d_N_has_12 ⟨Nat.zero_le _, Nat.zero_le _⟩ (fun r u H locs hp hP hD hS => ?_)
  have hp : r = (findA fc (tb c SS KK VV) oc (tb (1 - c) SS KK VV) cur c k) := hp
  subst hp
  have hP : va_P D classes (wN h q cA 0 (nI hf) (nI c) mv cq (nI cnt) (0 + nI (wkc fc (tb c SS KK VV) oc (tb (1 - c) SS KK VV) cur k)) wk SS KK VV ZZ) H := hP
  have hD : va_D A (wN h q cA 0 (nI hf) (nI c) mv cq (nI cnt) (0 + nI (wkc fc (tb c SS KK VV) oc (tb (1 - c) SS KK VV) cur k)) wk SS KK VV ZZ) := hD
  by_cases h1 : sh c SS (fsl fc (tb c SS KK VV) k) = 1
  · skip
    refine x_top (z := (nI (1024 * c + (fsl fc (tb c SS KK VV) k)))) (if_pos h1) ?_
    refine lv_istore_n (lv' := [(2, .int (nI (1024 * c + (fsl fc (tb c SS KK VV) k)))), (0, .ref h), (1, .int k)]) hx hb d_N_has_15 rfl hl (by decide) rfl (fun ls hl => ?_)
    refine lv_aload_n hx hb d_N_has_16 rfl (lv_at hl 1 rfl) ?_
    refine lv_aload_n hx hb d_N_has_17 rfl (lv_at hl 1 rfl) ?_
    refine va_get (D := D) (cl := classes) (ci := 2) (v := .int (0 + nI (wkc fc (tb c SS KK VV) oc (tb (1 - c) SS KK VV) cur k))) (C := "StepMapModel") (T := F_N) (N := 12) hx hb ht i_N hown hk.1 hP 0 rfl rfl 10 (by decide) (ht _ mw_1_192) (fun _ h9 => h9) rfl d_N_has_18 ?_
    refine va_put (D := D) (cl := classes) (ci := 2) (v := .int (0 + nI (wkc fc (tb c SS KK VV) oc (tb (1 - c) SS KK VV) cur k))) (ty := .int) (C := "StepMapModel") (T := F_N) (N := 12) hx hb ht i_N tt_N tt_N_ok n_N hown hk.1 hP hD hS 0 rfl rfl 11 (by decide) (ht _ mw_1_193) (fun _ h9 => h9) rfl (by decide +kernel) rfl rfl (Nat.le_of_ble_eq_true rfl) d_N_has_21 (fun H locs hP hD hS => ?_)
    have hP : va_P D classes (wN h q cA 0 (nI hf) (nI c) mv cq (nI cnt) (0 + nI (wkc fc (tb c SS KK VV) oc (tb (1 - c) SS KK VV) cur k)) (0 + nI (wkc fc (tb c SS KK VV) oc (tb (1 - c) SS KK VV) cur k)) SS KK VV ZZ) H := hP
    have hD : va_D A (wN h q cA 0 (nI hf) (nI c) mv cq (nI cnt) (0 + nI (wkc fc (tb c SS KK VV) oc (tb (1 - c) SS KK VV) cur k)) (0 + nI (wkc fc (tb c SS KK VV) oc (tb (1 - c) SS KK VV) cur k)) SS KK VV ZZ) := hD
    refine lv_iload_n hx hb d_N_has_24 rfl (lv_at hl 0 rfl) ?_
    refine lv_if_lt (tgt := 32) hx hb d_N_has_25 (by decide) (fun c9 => absurd c9 (nI_pos (by omega))) (fun _ => ?_)
    refine lv_iconst (v := 1) hx hb d_N_has_28 (by decide) ?_
    refine lv_goto (tgt := 33) hx hb d_N_has_29 (by decide) ?_
    have hM : MRu (fc, (tb c SS KK VV), oc, (tb (1 - c) SS KK VV), cur, cnt, nI (wkc fc (tb c SS KK VV) oc (tb (1 - c) SS KK VV) cur k)) (c, mv, cq, (0 + nI (wkc fc (tb c SS KK VV) oc (tb (1 - c) SS KK VV) cur k)), SS, KK, VV, ZZ) := hmr
    rw [i0a (nI (wkc fc (tb c SS KK VV) oc (tb (1 - c) SS KK VV) cur k))] at hP hD
    exact hret _ _ _ _ _ _ (c, mv, cq, nI (wkc fc (tb c SS KK VV) oc (tb (1 - c) SS KK VV) cur k), SS, KK, VV, ZZ) d_N_has_33 (Or.inr rfl) hP hD hS (⟨(by unfold oremA; rw [if_pos h1]), hM⟩) rfl
  · skip
    by_cases h2 : inO oc (tb (1 - c) SS KK VV) cur k
    · skip
      have hoo := hlk h2.1
      have hslo := (fsl_spec hoo.1 hoo.2.2).1
      have ho4 : (fsl oc (tb (1 - c) SS KK VV) k) < 1024 := by omega
      refine x_top (z := (nI (1024 * (1 - c) + (fsl oc (tb (1 - c) SS KK VV) k)))) ((if_neg h1).trans (if_pos h2)) ?_
      refine lv_istore_n (lv' := [(2, .int (nI (1024 * (1 - c) + (fsl oc (tb (1 - c) SS KK VV) k)))), (0, .ref h), (1, .int k)]) hx hb d_N_has_15 rfl hl (by decide) rfl (fun ls hl => ?_)
      refine lv_aload_n hx hb d_N_has_16 rfl (lv_at hl 1 rfl) ?_
      refine lv_aload_n hx hb d_N_has_17 rfl (lv_at hl 1 rfl) ?_
      refine va_get (D := D) (cl := classes) (ci := 2) (v := .int (0 + nI (wkc fc (tb c SS KK VV) oc (tb (1 - c) SS KK VV) cur k))) (C := "StepMapModel") (T := F_N) (N := 12) hx hb ht i_N hown hk.1 hP 0 rfl rfl 10 (by decide) (ht _ mw_1_192) (fun _ h9 => h9) rfl d_N_has_18 ?_
      refine va_put (D := D) (cl := classes) (ci := 2) (v := .int (0 + nI (wkc fc (tb c SS KK VV) oc (tb (1 - c) SS KK VV) cur k))) (ty := .int) (C := "StepMapModel") (T := F_N) (N := 12) hx hb ht i_N tt_N tt_N_ok n_N hown hk.1 hP hD hS 0 rfl rfl 11 (by decide) (ht _ mw_1_193) (fun _ h9 => h9) rfl (by decide +kernel) rfl rfl (Nat.le_of_ble_eq_true rfl) d_N_has_21 (fun H locs hP hD hS => ?_)
      have hP : va_P D classes (wN h q cA 0 (nI hf) (nI c) mv cq (nI cnt) (0 + nI (wkc fc (tb c SS KK VV) oc (tb (1 - c) SS KK VV) cur k)) (0 + nI (wkc fc (tb c SS KK VV) oc (tb (1 - c) SS KK VV) cur k)) SS KK VV ZZ) H := hP
      have hD : va_D A (wN h q cA 0 (nI hf) (nI c) mv cq (nI cnt) (0 + nI (wkc fc (tb c SS KK VV) oc (tb (1 - c) SS KK VV) cur k)) (0 + nI (wkc fc (tb c SS KK VV) oc (tb (1 - c) SS KK VV) cur k)) SS KK VV ZZ) := hD
      refine lv_iload_n hx hb d_N_has_24 rfl (lv_at hl 0 rfl) ?_
      refine lv_if_lt (tgt := 32) hx hb d_N_has_25 (by decide) (fun c9 => absurd c9 (nI_pos (by omega))) (fun _ => ?_)
      refine lv_iconst (v := 1) hx hb d_N_has_28 (by decide) ?_
      refine lv_goto (tgt := 33) hx hb d_N_has_29 (by decide) ?_
      have hM : MRu (fc, (tb c SS KK VV), oc, (tb (1 - c) SS KK VV), cur, cnt, nI (wkc fc (tb c SS KK VV) oc (tb (1 - c) SS KK VV) cur k)) (c, mv, cq, (0 + nI (wkc fc (tb c SS KK VV) oc (tb (1 - c) SS KK VV) cur k)), SS, KK, VV, ZZ) := hmr
      rw [i0a (nI (wkc fc (tb c SS KK VV) oc (tb (1 - c) SS KK VV) cur k))] at hP hD
      exact hret _ _ _ _ _ _ (c, mv, cq, nI (wkc fc (tb c SS KK VV) oc (tb (1 - c) SS KK VV) cur k), SS, KK, VV, ZZ) d_N_has_33 (Or.inr rfl) hP hD hS (⟨(by unfold oremA; rw [if_neg h1, if_pos h2]), hM⟩) rfl
    · skip
      refine x_top (z := (-1)) ((if_neg h1).trans (if_neg h2)) ?_
      refine lv_istore_n (lv' := [(2, .int (-1)), (0, .ref h), (1, .int k)]) hx hb d_N_has_15 rfl hl (by decide) rfl (fun ls hl => ?_)
      refine lv_aload_n hx hb d_N_has_16 rfl (lv_at hl 1 rfl) ?_
      refine lv_aload_n hx hb d_N_has_17 rfl (lv_at hl 1 rfl) ?_
      refine va_get (D := D) (cl := classes) (ci := 2) (v := .int (0 + nI (wkc fc (tb c SS KK VV) oc (tb (1 - c) SS KK VV) cur k))) (C := "StepMapModel") (T := F_N) (N := 12) hx hb ht i_N hown hk.1 hP 0 rfl rfl 10 (by decide) (ht _ mw_1_192) (fun _ h9 => h9) rfl d_N_has_18 ?_
      refine va_put (D := D) (cl := classes) (ci := 2) (v := .int (0 + nI (wkc fc (tb c SS KK VV) oc (tb (1 - c) SS KK VV) cur k))) (ty := .int) (C := "StepMapModel") (T := F_N) (N := 12) hx hb ht i_N tt_N tt_N_ok n_N hown hk.1 hP hD hS 0 rfl rfl 11 (by decide) (ht _ mw_1_193) (fun _ h9 => h9) rfl (by decide +kernel) rfl rfl (Nat.le_of_ble_eq_true rfl) d_N_has_21 (fun H locs hP hD hS => ?_)
      have hP : va_P D classes (wN h q cA 0 (nI hf) (nI c) mv cq (nI cnt) (0 + nI (wkc fc (tb c SS KK VV) oc (tb (1 - c) SS KK VV) cur k)) (0 + nI (wkc fc (tb c SS KK VV) oc (tb (1 - c) SS KK VV) cur k)) SS KK VV ZZ) H := hP
      have hD : va_D A (wN h q cA 0 (nI hf) (nI c) mv cq (nI cnt) (0 + nI (wkc fc (tb c SS KK VV) oc (tb (1 - c) SS KK VV) cur k)) (0 + nI (wkc fc (tb c SS KK VV) oc (tb (1 - c) SS KK VV) cur k)) SS KK VV ZZ) := hD
      refine lv_iload_n hx hb d_N_has_24 rfl (lv_at hl 0 rfl) ?_
      refine lv_if_lt (tgt := 32) hx hb d_N_has_25 (by decide) (fun _ => ?_) (fun c9 => absurd (by decide) c9)
      refine lv_iconst (v := 0) hx hb d_N_has_32 (by decide) ?_
      have hM : MRu (fc, (tb c SS KK VV), oc, (tb (1 - c) SS KK VV), cur, cnt, nI (wkc fc (tb c SS KK VV) oc (tb (1 - c) SS KK VV) cur k)) (c, mv, cq, (0 + nI (wkc fc (tb c SS KK VV) oc (tb (1 - c) SS KK VV) cur k)), SS, KK, VV, ZZ) := hmr
      rw [i0a (nI (wkc fc (tb c SS KK VV) oc (tb (1 - c) SS KK VV) cur k))] at hP hD
      exact hret _ _ _ _ _ _ (c, mv, cq, nI (wkc fc (tb c SS KK VV) oc (tb (1 - c) SS KK VV) cur k), SS, KK, VV, ZZ) d_N_has_33 (Or.inl rfl) hP hD hS (⟨(by unfold oremA; rw [if_neg h1, if_neg h2]), hM⟩) rfl
set_option maxHeartbeats 4000000 in
set_option maxRecDepth 100000 in
theorem c_N_slot (l : Launch) (D : va_G) (cA : ClassId) (h : Nat) (q : Ad) (th : Int32) (hf c : Nat) (mv cq : Int32) (cnt : Nat) (vi wk : Int32) (SS KK VV ZZ : Nat → Int32) (fc oc cur : Nat) (k : Int32) (hmr : MR fc (tb c SS KK VV) oc (tb (1 - c) SS KK VV) cur c mv cq SS KK VV ZZ) (hiv : Iv hf fc (tb c SS KK VV) oc (tb (1 - c) SS KK VV) cur cnt) : Mi l D [(cA, .int)] y_N_slot b_N_slot 3 (some .int) 3 70 [.ref h, .int k] (wN h q cA th (nI hf) (nI c) mv cq (nI cnt) vi wk SS KK VV ZZ) (fun r (u : Un) => r = oslotA fc (tb c SS KK VV) oc (tb (1 - c) SS KK VV) cur k ∧ MRu (fc, (tb c SS KK VV), oc, (tb (1 - c) SS KK VV), cur, cnt, wk) u) (fun u => wU h q cA 0 hf (fc, (tb c SS KK VV), oc, (tb (1 - c) SS KK VV), cur, cnt, wk) u) := by
  refine mi_start (own := "StepMapModel") (by decide +kernel) rfl (Nat.le_of_ble_eq_true rfl) ?_
  intro p e s m args below meth cd ls A Q hx hb hml hown ht hk hP hD hA hl hret
  have hS : va_S A s.heap s.heap [] := va_S.rf
  have hl : lv_has ls 3 [(0, .ref h), (1, .int k)] := hl
  obtain ⟨hh, hfh, hf8, hcu, ho, hct⟩ := hiv.bounds
  have hpf := hiv.2.1
  have hfo := hiv.lk k
  have hsl := (fsl_spec hpf hfo).1
  have hlk : cur < oc → pw oc ∧ oc ≤ hf ∧ fok oc (tb (1 - c) SS KK VV) k := fun z => ⟨(hiv.old z).1, ho, hiv.lkO z k⟩
  obtain ⟨hc2, -, -, hz, hmo⟩ := id hmr
  have hcc : ¬ c = 1 - c := by omega
  have hcc2 : ¬ 1 - c = c := by omega
  have hs4 : (fsl fc (tb c SS KK VV) k) < 1024 := by omega
  refine lv_aload_n hx hb d_N_slot_0 rfl (lv_at hl 0 rfl) ?_
  refine lv_iconst (v := 0) hx hb d_N_slot_1 (by decide) ?_
  refine va_put (D := D) (cl := classes) (ci := 2) (v := .int 0) (ty := .int) (C := "StepMapModel") (T := F_N) (N := 12) hx hb ht i_N tt_N tt_N_ok n_N hown hk.1 hP hD hS 0 rfl rfl 0 (by decide) (ht _ mw_1_182) (fun _ h9 => h9) rfl (by decide +kernel) rfl rfl (Nat.le_of_ble_eq_true rfl) d_N_slot_2 (fun H locs hP hD hS => ?_)
  have hP : va_P D classes (wN h q cA 0 (nI hf) (nI c) mv cq (nI cnt) vi wk SS KK VV ZZ) H := hP
  have hD : va_D A (wN h q cA 0 (nI hf) (nI c) mv cq (nI cnt) vi wk SS KK VV ZZ) := hD
  refine lv_aload_n hx hb d_N_slot_5 rfl (lv_at hl 0 rfl) ?_
  refine lv_iload_n hx hb d_N_slot_6 rfl (lv_at hl 1 rfl) ?_
  refine xV_i (D := D) (k := 1) (ci := 2) (q := ("StepMapModel", F_N, 12)) (wr := []) (wb := fun u => (wN h q cA 0 (nI hf) (nI c) mv cq (nI cnt) (vi + nI (wkc fc (tb c SS KK VV) oc (tb (1 - c) SS KK VV) cur k)) wk SS KK VV ZZ)) (rest := []) ⟨hx, hb, hml, hown, ht⟩ (c_N_find l D cA h q 0 hf c mv cq cnt vi wk SS KK VV ZZ fc oc cur k hmr hiv) gv_N_81 (by decide +kernel) rfl ⟨Nat.le_of_ble_eq_true rfl, Nat.le_of_ble_eq_true rfl⟩ hk hP hD hS hA [0, 1, 2, 3, 4] [] [0, 1, 2, 3, 4] rfl rfl (fun _ => rfl) ⟨rfl, rfl, rfl⟩ (by decide) rfl rfl hl.1 rfl (Nat.le_of_ble_eq_true rfl) d_N_slot_7 ⟨Nat.zero_le _, Nat.zero_le _⟩ (fun r u H locs hp hP hD hS => ?_)
  have hp : r = (findA fc (tb c SS KK VV) oc (tb (1 - c) SS KK VV) cur c k) := hp
  subst hp
  have hP : va_P D classes (wN h q cA 0 (nI hf) (nI c) mv cq (nI cnt) (vi + nI (wkc fc (tb c SS KK VV) oc (tb (1 - c) SS KK VV) cur k)) wk SS KK VV ZZ) H := hP
  have hD : va_D A (wN h q cA 0 (nI hf) (nI c) mv cq (nI cnt) (vi + nI (wkc fc (tb c SS KK VV) oc (tb (1 - c) SS KK VV) cur k)) wk SS KK VV ZZ) := hD
  by_cases h1 : sh c SS (fsl fc (tb c SS KK VV) k) = 1
  · skip
    refine x_top (z := (nI (1024 * c + (fsl fc (tb c SS KK VV) k)))) (if_pos h1) ?_
    refine lv_istore_n (lv' := [(2, .int (nI (1024 * c + (fsl fc (tb c SS KK VV) k)))), (0, .ref h), (1, .int k)]) hx hb d_N_slot_10 rfl hl (by decide) rfl (fun ls hl => ?_)
    refine lv_iload_n hx hb d_N_slot_11 rfl (lv_at hl 0 rfl) ?_
    refine lv_if_ge (tgt := 19) hx hb d_N_slot_12 (by decide) (fun _ => ?_) (fun c9 => absurd (nI_pos' (by omega)) c9)
    refine lv_iload_n hx hb d_N_slot_19 rfl (lv_at hl 0 rfl) ?_
    refine lv_sipush (v := 1024) hx hb d_N_slot_20 (by decide) ?_
    refine lv_idiv hx hb d_N_slot_23 (by decide) ?_
    refine x_top (z := (nI c)) ((pk_div (a := (1024 * c + (fsl fc (tb c SS KK VV) k))) (d := 1024) (by omega) (by decide) (by decide)).trans (by congr 1; omega)) ?_
    refine lv_aload_n hx hb d_N_slot_24 rfl (lv_at hl 1 rfl) ?_
    refine va_get (D := D) (cl := classes) (ci := 2) (v := .int (nI c)) (C := "StepMapModel") (T := F_N) (N := 12) hx hb ht i_N hown hk.1 hP 0 rfl rfl 6 (by decide) (ht _ mw_1_188) (fun _ h9 => h9) rfl d_N_slot_25 ?_
    refine lv_icmp_ne (tgt := 39) hx hb d_N_slot_28 (by decide) (fun c9 => absurd (rfl) c9) (fun _ => ?_)
    refine lv_iload_n hx hb d_N_slot_31 rfl (lv_at hl 0 rfl) ?_
    refine lv_sipush (v := 1024) hx hb d_N_slot_32 (by decide) ?_
    refine lv_irem hx hb d_N_slot_35 (by decide) ?_
    refine x_top (z := (nI (fsl fc (tb c SS KK VV) k))) ((pk_rem (a := (1024 * c + (fsl fc (tb c SS KK VV) k))) (d := 1024) (by omega) (by decide) (by decide)).trans (by congr 1; omega)) ?_
    refine lv_goto (tgt := 48) hx hb d_N_slot_36 (by decide) ?_
    have hM : MRu (fc, (tb c SS KK VV), oc, (tb (1 - c) SS KK VV), cur, cnt, wk) (c, mv, cq, (vi + nI (wkc fc (tb c SS KK VV) oc (tb (1 - c) SS KK VV) cur k)), SS, KK, VV, ZZ) := hmr
    exact hret _ _ _ _ _ _ (c, mv, cq, (vi + nI (wkc fc (tb c SS KK VV) oc (tb (1 - c) SS KK VV) cur k)), SS, KK, VV, ZZ) d_N_slot_48 hP hD hS (⟨(by unfold oslotA; rw [if_pos h1]), hM⟩) rfl
  · skip
    by_cases h2 : inO oc (tb (1 - c) SS KK VV) cur k
    · skip
      have hoo := hlk h2.1
      have hslo := (fsl_spec hoo.1 hoo.2.2).1
      have ho4 : (fsl oc (tb (1 - c) SS KK VV) k) < 1024 := by omega
      refine x_top (z := (nI (1024 * (1 - c) + (fsl oc (tb (1 - c) SS KK VV) k)))) ((if_neg h1).trans (if_pos h2)) ?_
      refine lv_istore_n (lv' := [(2, .int (nI (1024 * (1 - c) + (fsl oc (tb (1 - c) SS KK VV) k)))), (0, .ref h), (1, .int k)]) hx hb d_N_slot_10 rfl hl (by decide) rfl (fun ls hl => ?_)
      refine lv_iload_n hx hb d_N_slot_11 rfl (lv_at hl 0 rfl) ?_
      refine lv_if_ge (tgt := 19) hx hb d_N_slot_12 (by decide) (fun _ => ?_) (fun c9 => absurd (nI_pos' (by omega)) c9)
      refine lv_iload_n hx hb d_N_slot_19 rfl (lv_at hl 0 rfl) ?_
      refine lv_sipush (v := 1024) hx hb d_N_slot_20 (by decide) ?_
      refine lv_idiv hx hb d_N_slot_23 (by decide) ?_
      refine x_top (z := (nI (1 - c))) ((pk_div (a := (1024 * (1 - c) + (fsl oc (tb (1 - c) SS KK VV) k))) (d := 1024) (by omega) (by decide) (by decide)).trans (by congr 1; omega)) ?_
      refine lv_aload_n hx hb d_N_slot_24 rfl (lv_at hl 1 rfl) ?_
      refine va_get (D := D) (cl := classes) (ci := 2) (v := .int (nI c)) (C := "StepMapModel") (T := F_N) (N := 12) hx hb ht i_N hown hk.1 hP 0 rfl rfl 6 (by decide) (ht _ mw_1_188) (fun _ h9 => h9) rfl d_N_slot_25 ?_
      refine lv_icmp_ne (tgt := 39) hx hb d_N_slot_28 (by decide) (fun _ => ?_) (fun c9 => absurd c9 (fun z => by have := (nI_eq (by omega) (by omega)).mp z; omega))
      refine lv_sipush (v := 2000) hx hb d_N_slot_39 (by decide) ?_
      refine lv_iload_n hx hb d_N_slot_42 rfl (lv_at hl 0 rfl) ?_
      refine lv_sipush (v := 1024) hx hb d_N_slot_43 (by decide) ?_
      refine lv_irem hx hb d_N_slot_46 (by decide) ?_
      refine x_top (z := (nI (fsl oc (tb (1 - c) SS KK VV) k))) ((pk_rem (a := (1024 * (1 - c) + (fsl oc (tb (1 - c) SS KK VV) k))) (d := 1024) (by omega) (by decide) (by decide)).trans (by congr 1; omega)) ?_
      refine lv_iadd hx hb d_N_slot_47 ?_
      refine x_top (z := (nI (2000 + (fsl oc (tb (1 - c) SS KK VV) k)))) (nI_add 2000 _) ?_
      have hM : MRu (fc, (tb c SS KK VV), oc, (tb (1 - c) SS KK VV), cur, cnt, wk) (c, mv, cq, (vi + nI (wkc fc (tb c SS KK VV) oc (tb (1 - c) SS KK VV) cur k)), SS, KK, VV, ZZ) := hmr
      exact hret _ _ _ _ _ _ (c, mv, cq, (vi + nI (wkc fc (tb c SS KK VV) oc (tb (1 - c) SS KK VV) cur k)), SS, KK, VV, ZZ) d_N_slot_48 hP hD hS (⟨(by unfold oslotA; rw [if_neg h1, if_pos h2]), hM⟩) rfl
    · skip
      refine x_top (z := (-1)) ((if_neg h1).trans (if_neg h2)) ?_
      refine lv_istore_n (lv' := [(2, .int (-1)), (0, .ref h), (1, .int k)]) hx hb d_N_slot_10 rfl hl (by decide) rfl (fun ls hl => ?_)
      refine lv_iload_n hx hb d_N_slot_11 rfl (lv_at hl 0 rfl) ?_
      refine lv_if_ge (tgt := 19) hx hb d_N_slot_12 (by decide) (fun c9 => absurd c9 (by decide)) (fun _ => ?_)
      refine lv_iconst (v := (-1)) hx hb d_N_slot_15 (by decide) ?_
      refine lv_goto (tgt := 48) hx hb d_N_slot_16 (by decide) ?_
      have hM : MRu (fc, (tb c SS KK VV), oc, (tb (1 - c) SS KK VV), cur, cnt, wk) (c, mv, cq, (vi + nI (wkc fc (tb c SS KK VV) oc (tb (1 - c) SS KK VV) cur k)), SS, KK, VV, ZZ) := hmr
      exact hret _ _ _ _ _ _ (c, mv, cq, (vi + nI (wkc fc (tb c SS KK VV) oc (tb (1 - c) SS KK VV) cur k)), SS, KK, VV, ZZ) d_N_slot_48 hP hD hS (⟨(by unfold oslotA; rw [if_neg h1, if_neg h2]), hM⟩) rfl
set_option maxHeartbeats 4000000 in
set_option maxRecDepth 100000 in
theorem c_N_put (l : Launch) (D : va_G) (cA : ClassId) (h : Nat) (q : Ad) (th : Int32) (hf c : Nat) (mv cq : Int32) (cnt : Nat) (vi wk : Int32) (SS KK VV ZZ : Nat → Int32) (fc oc cur : Nat) (k v : Int32) (hmr : MR fc (tb c SS KK VV) oc (tb (1 - c) SS KK VV) cur c mv cq SS KK VV ZZ) (hiv : Iv hf fc (tb c SS KK VV) oc (tb (1 - c) SS KK VV) cur cnt) : Mi l D [(cA, .int)] y_N_put b_N_put 6 (some .int) 4 92 [.ref h, .int k, .int v] (wN h q cA th (nI hf) (nI c) mv cq (nI cnt) vi wk SS KK VV ZZ) (fun r (u : Un) => r = oputA hf fc (tb c SS KK VV) oc (tb (1 - c) SS KK VV) cur cnt k ∧ MRu (oput hf fc (tb c SS KK VV) oc (tb (1 - c) SS KK VV) cur cnt k v) u) (fun u => wU h q cA 0 hf (oput hf fc (tb c SS KK VV) oc (tb (1 - c) SS KK VV) cur cnt k v) u) := by
  refine mi_start (own := "StepMapModel") (by decide +kernel) rfl (Nat.le_of_ble_eq_true rfl) ?_
  intro p e s m args below meth cd ls A Q hx hb hml hown ht hk hP hD hA hl hret
  have hS : va_S A s.heap s.heap [] := va_S.rf
  have hl : lv_has ls 6 [(0, .ref h), (1, .int k), (2, .int v)] := hl
  obtain ⟨hh, hfh, hf8, hcu, ho, hct⟩ := hiv.bounds
  have hpf := hiv.2.1
  have hfo := hiv.lk k
  have hsl := (fsl_spec hpf hfo).1
  have hlk : cur < oc → pw oc ∧ oc ≤ hf ∧ fok oc (tb (1 - c) SS KK VV) k := fun z => ⟨(hiv.old z).1, ho, hiv.lkO z k⟩
  obtain ⟨hc2, -, -, hz, hmo⟩ := id hmr
  have hcc : ¬ c = 1 - c := by omega
  have hcc2 : ¬ 1 - c = c := by omega
  have hs4 : (fsl fc (tb c SS KK VV) k) < 1024 := by omega
  have new : ¬ sh c SS (fsl fc (tb c SS KK VV) k) = 1 → ¬ inO oc (tb (1 - c) SS KK VV) cur k → ∀ (jj : Int32) (H : Heap) (locs : List Loc) (ls : Array Slot), va_P D classes (wN h q cA 0 (nI hf) (nI c) mv cq (nI cnt) (nI (wkc fc (tb c SS KK VV) oc (tb (1 - c) SS KK VV) cur k)) wk SS KK VV ZZ) H → va_D A (wN h q cA 0 (nI hf) (nI c) mv cq (nI cnt) (nI (wkc fc (tb c SS KK VV) oc (tb (1 - c) SS KK VV) cur k)) wk SS KK VV ZZ) → va_S A s.heap H locs → lv_has ls 6 [(5, .int 0), (4, .int jj), (3, .int (-1 - nI (fsl fc (tb c SS KK VV) k))), (0, .ref h), (1, .int k), (2, .int v)] → W p l e { frames := 4, cells := 0, slots := 0, locals := 92 } s m args below meth cd H locs 0 0 Q (F0 m 97 ls []) := by
    intro h1 h2 jj H locs ls hP hD hS hl
    refine lv_aload_n hx hb d_N_put_97 rfl (lv_at hl 3 rfl) ?_
    refine xV_i (D := D) (k := 0) (ci := 2) (q := ("StepMapModel", F_N, 12)) (wr := []) (wb := fun u => (wN h q cA 0 (nI hf) (nI c) mv cq (nI cnt) (nI (wkc fc (tb c SS KK VV) oc (tb (1 - c) SS KK VV) cur k)) wk SS KK VV ZZ)) (rest := []) ⟨hx, hb, hml, hown, ht⟩ (c_N_isFull l D cA h q 0 hf c mv cq cnt (nI (wkc fc (tb c SS KK VV) oc (tb (1 - c) SS KK VV) cur k)) wk SS KK VV ZZ fc oc cur hmr hcu (by omega) hh (by omega) hct) gv_N_70 (by decide +kernel) rfl ⟨Nat.le_of_ble_eq_true rfl, Nat.le_of_ble_eq_true rfl⟩ hk hP hD hS hA [0, 1, 2, 3, 4] [] [0, 1, 2, 3, 4] rfl rfl (fun _ => rfl) ⟨rfl, rfl, rfl⟩ (by decide) rfl rfl hl.1 rfl (Nat.le_of_ble_eq_true rfl) d_N_put_98 ⟨Nat.zero_le _, Nat.zero_le _⟩ (fun r u H locs hp hP hD hS => ?_)
    have hp : r = (if fullD hf fc oc cur cnt = true then 1 else 0) := hp
    subst hp
    have hP : va_P D classes (wN h q cA 0 (nI hf) (nI c) mv cq (nI cnt) (nI (wkc fc (tb c SS KK VV) oc (tb (1 - c) SS KK VV) cur k)) wk SS KK VV ZZ) H := hP
    have hD : va_D A (wN h q cA 0 (nI hf) (nI c) mv cq (nI cnt) (nI (wkc fc (tb c SS KK VV) oc (tb (1 - c) SS KK VV) cur k)) wk SS KK VV ZZ) := hD
    by_cases h3 : fullD hf fc oc cur cnt = true
    · skip
      refine x_top (z := 1) (if10 h3) ?_
      refine lv_if_eq (tgt := 111) hx hb d_N_put_101 (by decide) (fun c9 => absurd c9 (by decide)) (fun _ => ?_)
      refine lv_ldc (v := (-2000000001)) hx hb hown (ht _ mw_2_4) d_N_put_104 ?_
      refine lv_istore (lv' := [(5, .int (-2000000001)), (4, .int jj), (3, .int (-1 - nI (fsl fc (tb c SS KK VV) k))), (0, .ref h), (1, .int k), (2, .int v)]) hx hb d_N_put_106 hl (by decide) rfl (fun ls hl => ?_)
      refine lv_goto (tgt := 138) hx hb d_N_put_108 (by decide) ?_
      refine lv_aload_n hx hb d_N_put_138 rfl (lv_at hl 3 rfl) ?_
      refine lv_aload_n hx hb d_N_put_139 rfl (lv_at hl 3 rfl) ?_
      refine va_get (D := D) (cl := classes) (ci := 2) (v := .int (nI (wkc fc (tb c SS KK VV) oc (tb (1 - c) SS KK VV) cur k))) (C := "StepMapModel") (T := F_N) (N := 12) hx hb ht i_N hown hk.1 hP 0 rfl rfl 10 (by decide) (ht _ mw_1_192) (fun _ h9 => h9) rfl d_N_put_140 ?_
      refine va_put (D := D) (cl := classes) (ci := 2) (v := .int (nI (wkc fc (tb c SS KK VV) oc (tb (1 - c) SS KK VV) cur k))) (ty := .int) (C := "StepMapModel") (T := F_N) (N := 12) hx hb ht i_N tt_N tt_N_ok n_N hown hk.1 hP hD hS 0 rfl rfl 11 (by decide) (ht _ mw_1_193) (fun _ h9 => h9) rfl (by decide +kernel) rfl rfl (Nat.le_of_ble_eq_true rfl) d_N_put_143 (fun H locs hP hD hS => ?_)
      have hP : va_P D classes (wN h q cA 0 (nI hf) (nI c) mv cq (nI cnt) (nI (wkc fc (tb c SS KK VV) oc (tb (1 - c) SS KK VV) cur k)) (nI (wkc fc (tb c SS KK VV) oc (tb (1 - c) SS KK VV) cur k)) SS KK VV ZZ) H := hP
      have hD : va_D A (wN h q cA 0 (nI hf) (nI c) mv cq (nI cnt) (nI (wkc fc (tb c SS KK VV) oc (tb (1 - c) SS KK VV) cur k)) (nI (wkc fc (tb c SS KK VV) oc (tb (1 - c) SS KK VV) cur k)) SS KK VV ZZ) := hD
      refine lv_iload hx hb d_N_put_146 (lv_at hl 0 rfl) ?_
      have eS : (oput hf fc (tb c SS KK VV) oc (tb (1 - c) SS KK VV) cur cnt k v) = (fc, (tb c SS KK VV), oc, (tb (1 - c) SS KK VV), cur, cnt, nI (wkc fc (tb c SS KK VV) oc (tb (1 - c) SS KK VV) cur k)) := by unfold oput; rw [if_neg h1, if_neg h2, if_pos h3]
      have hM : MRu (oput hf fc (tb c SS KK VV) oc (tb (1 - c) SS KK VV) cur cnt k v) (c, mv, cq, nI (wkc fc (tb c SS KK VV) oc (tb (1 - c) SS KK VV) cur k), SS, KK, VV, ZZ) := by rw [eS]; exact hmr
      have hP : va_P D classes (wU h q cA 0 hf (oput hf fc (tb c SS KK VV) oc (tb (1 - c) SS KK VV) cur cnt k v) (c, mv, cq, nI (wkc fc (tb c SS KK VV) oc (tb (1 - c) SS KK VV) cur k), SS, KK, VV, ZZ)) H := by rw [eS]; exact hP
      have hD : va_D A (wU h q cA 0 hf (oput hf fc (tb c SS KK VV) oc (tb (1 - c) SS KK VV) cur cnt k v) (c, mv, cq, nI (wkc fc (tb c SS KK VV) oc (tb (1 - c) SS KK VV) cur k), SS, KK, VV, ZZ)) := by rw [eS]; exact hD
      exact hret _ _ _ _ _ _ (c, mv, cq, nI (wkc fc (tb c SS KK VV) oc (tb (1 - c) SS KK VV) cur k), SS, KK, VV, ZZ) d_N_put_148 hP hD hS (⟨(by unfold oputA; rw [if_neg h1, if_neg h2, if_pos h3]; rfl), hM⟩) rfl
    · skip
      refine x_top (z := 0) (if00 h3) ?_
      refine lv_if_eq (tgt := 111) hx hb d_N_put_101 (by decide) (fun _ => ?_) (fun c9 => absurd (rfl) c9)
      refine lv_aload_n hx hb d_N_put_111 rfl (lv_at hl 3 rfl) ?_
      refine lv_aload_n hx hb d_N_put_112 rfl (lv_at hl 3 rfl) ?_
      refine va_get (D := D) (cl := classes) (ci := 2) (v := .int (nI c)) (C := "StepMapModel") (T := F_N) (N := 12) hx hb ht i_N hown hk.1 hP 0 rfl rfl 6 (by decide) (ht _ mw_1_188) (fun _ h9 => h9) rfl d_N_put_113 ?_
      refine lv_iconst (v := (-1)) hx hb d_N_put_116 (by decide) ?_
      refine lv_iload_n hx hb d_N_put_117 rfl (lv_at hl 2 rfl) ?_
      refine lv_isub hx hb d_N_put_118 ?_
      refine x_top (z := (nI (fsl fc (tb c SS KK VV) k))) (m1m1 (by omega)) ?_
      refine lv_iload_n hx hb d_N_put_119 rfl (lv_at hl 4 rfl) ?_
      refine lv_iload_n hx hb d_N_put_120 rfl (lv_at hl 5 rfl) ?_
      refine xV_v (D := D) (k := 4) (ci := 2) (q := ("StepMapModel", F_N, 12)) (wr := []) (wb := fun u => (wN h q cA 0 (nI hf) (nI c) mv cq (nI cnt) (nI (wkc fc (tb c SS KK VV) oc (tb (1 - c) SS KK VV) cur k)) wk (upd SS (1024 * c + (fsl fc (tb c SS KK VV) k)) 1) (upd KK (1024 * c + (fsl fc (tb c SS KK VV) k)) k) (upd VV (1024 * c + (fsl fc (tb c SS KK VV) k)) v) ZZ)) (rest := []) ⟨hx, hb, hml, hown, ht⟩ (c_N_lay l D cA h q 0 (nI hf) (nI c) mv cq (nI cnt) (nI (wkc fc (tb c SS KK VV) oc (tb (1 - c) SS KK VV) cur k)) wk SS KK VV ZZ c (fsl fc (tb c SS KK VV) k) k v hc2 hs4) gv_N_52 (by decide +kernel) rfl ⟨Nat.le_of_ble_eq_true rfl, Nat.le_of_ble_eq_true rfl⟩ hk hP hD hS hA [0, 1, 2, 3, 4] [] [0, 1, 2, 3, 4] rfl rfl (fun _ => rfl) ⟨rfl, rfl, rfl⟩ (by decide) rfl rfl hl.1 rfl (Nat.le_of_ble_eq_true rfl) d_N_put_121 ⟨Nat.zero_le _, Nat.zero_le _⟩ (fun u H locs hp hP hD hS => ?_)
      have hP : va_P D classes (wN h q cA 0 (nI hf) (nI c) mv cq (nI cnt) (nI (wkc fc (tb c SS KK VV) oc (tb (1 - c) SS KK VV) cur k)) wk (upd SS (1024 * c + (fsl fc (tb c SS KK VV) k)) 1) (upd KK (1024 * c + (fsl fc (tb c SS KK VV) k)) k) (upd VV (1024 * c + (fsl fc (tb c SS KK VV) k)) v) ZZ) H := hP
      have hD : va_D A (wN h q cA 0 (nI hf) (nI c) mv cq (nI cnt) (nI (wkc fc (tb c SS KK VV) oc (tb (1 - c) SS KK VV) cur k)) wk (upd SS (1024 * c + (fsl fc (tb c SS KK VV) k)) 1) (upd KK (1024 * c + (fsl fc (tb c SS KK VV) k)) k) (upd VV (1024 * c + (fsl fc (tb c SS KK VV) k)) v) ZZ) := hD
      refine lv_aload_n hx hb d_N_put_124 rfl (lv_at hl 3 rfl) ?_
      refine lv_dup hx hb d_N_put_125 rfl ?_
      refine va_get (D := D) (cl := classes) (ci := 2) (v := .int (nI cnt)) (C := "StepMapModel") (T := F_N) (N := 12) hx hb ht i_N hown hk.1 hP 0 rfl rfl 9 (by decide) (ht _ mw_1_191) (fun _ h9 => h9) rfl d_N_put_126 ?_
      refine lv_iconst (v := 1) hx hb d_N_put_129 (by decide) ?_
      refine lv_iadd hx hb d_N_put_130 ?_
      refine x_top (z := (nI (cnt + 1))) (nI_1 cnt) ?_
      refine va_put (D := D) (cl := classes) (ci := 2) (v := .int (nI (cnt + 1))) (ty := .int) (C := "StepMapModel") (T := F_N) (N := 12) hx hb ht i_N tt_N tt_N_ok n_N hown hk.1 hP hD hS 0 rfl rfl 9 (by decide) (ht _ mw_1_191) (fun _ h9 => h9) rfl (by decide +kernel) rfl rfl (Nat.le_of_ble_eq_true rfl) d_N_put_131 (fun H locs hP hD hS => ?_)
      have hP : va_P D classes (wN h q cA 0 (nI hf) (nI c) mv cq (nI (cnt + 1)) (nI (wkc fc (tb c SS KK VV) oc (tb (1 - c) SS KK VV) cur k)) wk (upd SS (1024 * c + (fsl fc (tb c SS KK VV) k)) 1) (upd KK (1024 * c + (fsl fc (tb c SS KK VV) k)) k) (upd VV (1024 * c + (fsl fc (tb c SS KK VV) k)) v) ZZ) H := hP
      have hD : va_D A (wN h q cA 0 (nI hf) (nI c) mv cq (nI (cnt + 1)) (nI (wkc fc (tb c SS KK VV) oc (tb (1 - c) SS KK VV) cur k)) wk (upd SS (1024 * c + (fsl fc (tb c SS KK VV) k)) 1) (upd KK (1024 * c + (fsl fc (tb c SS KK VV) k)) k) (upd VV (1024 * c + (fsl fc (tb c SS KK VV) k)) v) ZZ) := hD
      refine lv_aload_n hx hb d_N_put_134 rfl (lv_at hl 3 rfl) ?_
      have t1 : tb c (upd SS (1024 * c + (fsl fc (tb c SS KK VV) k)) 1) (upd KK (1024 * c + (fsl fc (tb c SS KK VV) k)) k) (upd VV (1024 * c + (fsl fc (tb c SS KK VV) k)) v) = tput (tb c SS KK VV) (fsl fc (tb c SS KK VV) k) k v := by
        show (sh c (upd KK (1024 * c + (fsl fc (tb c SS KK VV) k)) k), sh c (upd VV (1024 * c + (fsl fc (tb c SS KK VV) k)) v), sh c (upd SS (1024 * c + (fsl fc (tb c SS KK VV) k)) 1)) = _
        rw [sh_upd _ _ hs4, sh_upd _ _ hs4, sh_upd _ _ hs4]; rfl
      have t2 : tb (1 - c) (upd SS (1024 * c + (fsl fc (tb c SS KK VV) k)) 1) (upd KK (1024 * c + (fsl fc (tb c SS KK VV) k)) k) (upd VV (1024 * c + (fsl fc (tb c SS KK VV) k)) v) = (tb (1 - c) SS KK VV) := by
        show (sh (1 - c) (upd KK (1024 * c + (fsl fc (tb c SS KK VV) k)) k), sh (1 - c) (upd VV (1024 * c + (fsl fc (tb c SS KK VV) k)) v), sh (1 - c) (upd SS (1024 * c + (fsl fc (tb c SS KK VV) k)) 1)) = _
        rw [sh_upd_o _ _ hs4 hcc, sh_upd_o _ _ hs4 hcc, sh_upd_o _ _ hs4 hcc]
      refine xV_v (D := D) (k := 0) (ci := 2) (q := ("StepMapModel", F_N, 12)) (wr := []) (wb := fun u => (wU h q cA 0 hf (stl fc (tb c (upd SS (1024 * c + (fsl fc (tb c SS KK VV) k)) 1) (upd KK (1024 * c + (fsl fc (tb c SS KK VV) k)) k) (upd VV (1024 * c + (fsl fc (tb c SS KK VV) k)) v)) oc (tb (1 - c) (upd SS (1024 * c + (fsl fc (tb c SS KK VV) k)) 1) (upd KK (1024 * c + (fsl fc (tb c SS KK VV) k)) k) (upd VV (1024 * c + (fsl fc (tb c SS KK VV) k)) v)) cur (cnt + 1) wk) u)) (rest := []) ⟨hx, hb, hml, hown, ht⟩ (c_N_settle l D cA h q 0 hf c mv cq (cnt + 1) (nI (wkc fc (tb c SS KK VV) oc (tb (1 - c) SS KK VV) cur k)) wk (upd SS (1024 * c + (fsl fc (tb c SS KK VV) k)) 1) (upd KK (1024 * c + (fsl fc (tb c SS KK VV) k)) k) (upd VV (1024 * c + (fsl fc (tb c SS KK VV) k)) v) ZZ fc oc cur (wkc fc (tb c SS KK VV) oc (tb (1 - c) SS KK VV) cur k) ⟨hc2, rfl, rfl, hz, hmo⟩ (by rw [t1, t2]; exact put_SI hiv h1 h2 h3) (rfl)) gv_N_75 (by decide +kernel) rfl ⟨Nat.le_of_ble_eq_true rfl, Nat.le_of_ble_eq_true rfl⟩ hk hP hD hS hA [0, 1, 2, 3, 4] [] [0, 1, 2, 3, 4] rfl rfl (fun _ => rfl) ⟨rfl, rfl, rfl⟩ (by decide) rfl rfl hl.1 rfl (Nat.le_of_ble_eq_true rfl) d_N_put_135 ⟨Nat.zero_le _, Nat.zero_le _⟩ (fun u H locs hp hP hD hS => ?_)
      have hP : va_P D classes (wU h q cA 0 hf (stl fc (tb c (upd SS (1024 * c + (fsl fc (tb c SS KK VV) k)) 1) (upd KK (1024 * c + (fsl fc (tb c SS KK VV) k)) k) (upd VV (1024 * c + (fsl fc (tb c SS KK VV) k)) v)) oc (tb (1 - c) (upd SS (1024 * c + (fsl fc (tb c SS KK VV) k)) 1) (upd KK (1024 * c + (fsl fc (tb c SS KK VV) k)) k) (upd VV (1024 * c + (fsl fc (tb c SS KK VV) k)) v)) cur (cnt + 1) wk) u) H := hP
      have hD : va_D A (wU h q cA 0 hf (stl fc (tb c (upd SS (1024 * c + (fsl fc (tb c SS KK VV) k)) 1) (upd KK (1024 * c + (fsl fc (tb c SS KK VV) k)) k) (upd VV (1024 * c + (fsl fc (tb c SS KK VV) k)) v)) oc (tb (1 - c) (upd SS (1024 * c + (fsl fc (tb c SS KK VV) k)) 1) (upd KK (1024 * c + (fsl fc (tb c SS KK VV) k)) k) (upd VV (1024 * c + (fsl fc (tb c SS KK VV) k)) v)) cur (cnt + 1) wk) u) := hD
      rw [t1, t2] at hP hD hp
      have eT := stl_wk fc (tput (tb c SS KK VV) (fsl fc (tb c SS KK VV) k) k v) oc (tb (1 - c) SS KK VV) cur (cnt + 1) wk (nI (stw fc (tput (tb c SS KK VV) (fsl fc (tb c SS KK VV) k) k v) oc (tb (1 - c) SS KK VV) cur (wkc fc (tb c SS KK VV) oc (tb (1 - c) SS KK VV) cur k)))
      obtain ⟨Sx, eSx⟩ : ∃ z, z = (stl fc (tput (tb c SS KK VV) (fsl fc (tb c SS KK VV) k) k v) oc (tb (1 - c) SS KK VV) cur (cnt + 1) wk) := ⟨_, rfl⟩
      rw [← eSx] at hP hD hp eT
      obtain ⟨c2, m2, q2, v2, S2, K2, V2, Z2⟩ := u
      obtain ⟨hMx, hvx⟩ : MRu Sx (c2, m2, q2, v2, S2, K2, V2, Z2) ∧ v2 = nI (stw fc (tput (tb c SS KK VV) (fsl fc (tb c SS KK VV) k) k v) oc (tb (1 - c) SS KK VV) cur (wkc fc (tb c SS KK VV) oc (tb (1 - c) SS KK VV) cur k)) := hp
      have hP : va_P D classes (wN h q cA 0 (nI hf) (nI c2) m2 q2 (nI Sx.2.2.2.2.2.1) v2 Sx.2.2.2.2.2.2 S2 K2 V2 Z2) H := hP
      have hD : va_D A (wN h q cA 0 (nI hf) (nI c2) m2 q2 (nI Sx.2.2.2.2.2.1) v2 Sx.2.2.2.2.2.2 S2 K2 V2 Z2) := hD
      refine lv_aload_n hx hb d_N_put_138 rfl (lv_at hl 3 rfl) ?_
      refine lv_aload_n hx hb d_N_put_139 rfl (lv_at hl 3 rfl) ?_
      refine va_get (D := D) (cl := classes) (ci := 2) (v := .int v2) (C := "StepMapModel") (T := F_N) (N := 12) hx hb ht i_N hown hk.1 hP 0 rfl rfl 10 (by decide) (ht _ mw_1_192) (fun _ h9 => h9) rfl d_N_put_140 ?_
      refine va_put (D := D) (cl := classes) (ci := 2) (v := .int v2) (ty := .int) (C := "StepMapModel") (T := F_N) (N := 12) hx hb ht i_N tt_N tt_N_ok n_N hown hk.1 hP hD hS 0 rfl rfl 11 (by decide) (ht _ mw_1_193) (fun _ h9 => h9) rfl (by decide +kernel) rfl rfl (Nat.le_of_ble_eq_true rfl) d_N_put_143 (fun H locs hP hD hS => ?_)
      have hP : va_P D classes (wN h q cA 0 (nI hf) (nI c2) m2 q2 (nI Sx.2.2.2.2.2.1) v2 v2 S2 K2 V2 Z2) H := hP
      have hD : va_D A (wN h q cA 0 (nI hf) (nI c2) m2 q2 (nI Sx.2.2.2.2.2.1) v2 v2 S2 K2 V2 Z2) := hD
      refine lv_iload hx hb d_N_put_146 (lv_at hl 0 rfl) ?_
      have eS : (oput hf fc (tb c SS KK VV) oc (tb (1 - c) SS KK VV) cur cnt k v) = _ := (by unfold oput; rw [if_neg h1, if_neg h2, if_neg h3] : (oput hf fc (tb c SS KK VV) oc (tb (1 - c) SS KK VV) cur cnt k v) = _)
      have hM : MRu (oput hf fc (tb c SS KK VV) oc (tb (1 - c) SS KK VV) cur cnt k v) (c2, m2, q2, v2, S2, K2, V2, Z2) := by rw [eS, eT]; exact hMx
      have hP : va_P D classes (wU h q cA 0 hf (oput hf fc (tb c SS KK VV) oc (tb (1 - c) SS KK VV) cur cnt k v) (c2, m2, q2, v2, S2, K2, V2, Z2)) H := by rw [eS, eT, ← hvx]; exact hP
      have hD : va_D A (wU h q cA 0 hf (oput hf fc (tb c SS KK VV) oc (tb (1 - c) SS KK VV) cur cnt k v) (c2, m2, q2, v2, S2, K2, V2, Z2)) := by rw [eS, eT, ← hvx]; exact hD
      exact hret _ _ _ _ _ _ (c2, m2, q2, v2, S2, K2, V2, Z2) d_N_put_148 hP hD hS (⟨(by unfold oputA; rw [if_neg h1, if_neg h2, if_neg h3]), hM⟩) rfl
  refine lv_aload_n hx hb d_N_put_0 rfl (lv_at hl 0 rfl) ?_
  refine lv_iconst (v := 0) hx hb d_N_put_1 (by decide) ?_
  refine va_put (D := D) (cl := classes) (ci := 2) (v := .int 0) (ty := .int) (C := "StepMapModel") (T := F_N) (N := 12) hx hb ht i_N tt_N tt_N_ok n_N hown hk.1 hP hD hS 0 rfl rfl 0 (by decide) (ht _ mw_1_182) (fun _ h9 => h9) rfl (by decide +kernel) rfl rfl (Nat.le_of_ble_eq_true rfl) d_N_put_2 (fun H locs hP hD hS => ?_)
  have hP : va_P D classes (wN h q cA 0 (nI hf) (nI c) mv cq (nI cnt) vi wk SS KK VV ZZ) H := hP
  have hD : va_D A (wN h q cA 0 (nI hf) (nI c) mv cq (nI cnt) vi wk SS KK VV ZZ) := hD
  refine lv_aload_n hx hb d_N_put_5 rfl (lv_at hl 0 rfl) ?_
  refine lv_iconst (v := 0) hx hb d_N_put_6 (by decide) ?_
  refine va_put (D := D) (cl := classes) (ci := 2) (v := .int 0) (ty := .int) (C := "StepMapModel") (T := F_N) (N := 12) hx hb ht i_N tt_N tt_N_ok n_N hown hk.1 hP hD hS 0 rfl rfl 10 (by decide) (ht _ mw_1_192) (fun _ h9 => h9) rfl (by decide +kernel) rfl rfl (Nat.le_of_ble_eq_true rfl) d_N_put_7 (fun H locs hP hD hS => ?_)
  have hP : va_P D classes (wN h q cA 0 (nI hf) (nI c) mv cq (nI cnt) 0 wk SS KK VV ZZ) H := hP
  have hD : va_D A (wN h q cA 0 (nI hf) (nI c) mv cq (nI cnt) 0 wk SS KK VV ZZ) := hD
  refine lv_aload_n hx hb d_N_put_10 rfl (lv_at hl 0 rfl) ?_
  refine lv_iload_n hx hb d_N_put_11 rfl (lv_at hl 1 rfl) ?_
  refine lv_aload_n hx hb d_N_put_12 rfl (lv_at hl 0 rfl) ?_
  refine va_get (D := D) (cl := classes) (ci := 2) (v := .int (nI c)) (C := "StepMapModel") (T := F_N) (N := 12) hx hb ht i_N hown hk.1 hP 0 rfl rfl 6 (by decide) (ht _ mw_1_188) (fun _ h9 => h9) rfl d_N_put_13 ?_
  refine xV_i (D := D) (k := 2) (ci := 2) (q := ("StepMapModel", F_N, 12)) (wr := []) (wb := fun u => (wN h q cA 0 (nI hf) (nI c) mv cq (nI cnt) (0 + nI (fct fc (tb c SS KK VV) k)) wk SS KK VV ZZ)) (rest := []) ⟨hx, hb, hml, hown, ht⟩ (c_N_look l D cA h q 0 (nI hf) (nI c) mv cq (nI cnt) 0 wk SS KK VV ZZ k c fc hpf hc2 hz hfo) gv_N_49 (by decide +kernel) rfl ⟨Nat.le_of_ble_eq_true rfl, Nat.le_of_ble_eq_true rfl⟩ hk hP hD hS hA [0, 1, 2, 3, 4] [] [0, 1, 2, 3, 4] rfl rfl (fun _ => rfl) ⟨rfl, rfl, rfl⟩ (by decide) rfl rfl hl.1 rfl (Nat.le_of_ble_eq_true rfl) d_N_put_16 ⟨Nat.zero_le _, Nat.zero_le _⟩ (fun r u H locs hp hP hD hS => ?_)
  have hp : r = (lookA fc (tb c SS KK VV) k) := hp
  subst hp
  have hP : va_P D classes (wN h q cA 0 (nI hf) (nI c) mv cq (nI cnt) (0 + nI (fct fc (tb c SS KK VV) k)) wk SS KK VV ZZ) H := hP
  have hD : va_D A (wN h q cA 0 (nI hf) (nI c) mv cq (nI cnt) (0 + nI (fct fc (tb c SS KK VV) k)) wk SS KK VV ZZ) := hD
  by_cases h1 : sh c SS (fsl fc (tb c SS KK VV) k) = 1
  · skip
    refine x_top (z := (nI (fsl fc (tb c SS KK VV) k))) (if_pos h1) ?_
    refine lv_istore_n (lv' := [(3, .int (nI (fsl fc (tb c SS KK VV) k))), (0, .ref h), (1, .int k), (2, .int v)]) hx hb d_N_put_19 rfl hl (by decide) rfl (fun ls hl => ?_)
    refine lv_iload_n hx hb d_N_put_20 rfl (lv_at hl 0 rfl) ?_
    refine lv_if_ge (tgt := 45) hx hb d_N_put_21 (by decide) (fun _ => ?_) (fun c9 => absurd (nI_pos' (by omega)) c9)
    refine lv_iconst (v := (-1)) hx hb d_N_put_45 (by decide) ?_
    refine lv_istore (lv' := [(4, .int (-1)), (3, .int (nI (fsl fc (tb c SS KK VV) k))), (0, .ref h), (1, .int k), (2, .int v)]) hx hb d_N_put_46 hl (by decide) rfl (fun ls hl => ?_)
    refine lv_iconst (v := 0) hx hb d_N_put_48 (by decide) ?_
    refine lv_istore (lv' := [(5, .int 0), (4, .int (-1)), (3, .int (nI (fsl fc (tb c SS KK VV) k))), (0, .ref h), (1, .int k), (2, .int v)]) hx hb d_N_put_49 hl (by decide) rfl (fun ls hl => ?_)
    refine lv_iload_n hx hb d_N_put_51 rfl (lv_at hl 2 rfl) ?_
    refine lv_if_ge (tgt := 60) hx hb d_N_put_52 (by decide) (fun _ => ?_) (fun c9 => absurd (nI_pos' (by omega)) c9)
    refine lv_aload_n hx hb d_N_put_60 rfl (lv_at hl 3 rfl) ?_
    refine va_get (D := D) (cl := classes) (ci := 2) (v := .ref q.2.2.1) (C := "StepMapModel") (T := F_N) (N := 12) hx hb ht i_N hown hk.1 hP 0 rfl rfl 4 (by decide) (ht _ mw_1_186) (fun _ h9 => h9) rfl d_N_put_61 ?_
    refine lv_iload_n hx hb d_N_put_64 rfl (lv_at hl 2 rfl) ?_
    refine lv_if_lt (tgt := 80) hx hb d_N_put_65 (by decide) (fun c9 => absurd c9 (nI_pos (by omega))) (fun _ => ?_)
    refine lv_aload_n hx hb d_N_put_68 rfl (lv_at hl 3 rfl) ?_
    refine lv_aload_n hx hb d_N_put_69 rfl (lv_at hl 3 rfl) ?_
    refine va_get (D := D) (cl := classes) (ci := 2) (v := .int (nI c)) (C := "StepMapModel") (T := F_N) (N := 12) hx hb ht i_N hown hk.1 hP 0 rfl rfl 6 (by decide) (ht _ mw_1_188) (fun _ h9 => h9) rfl d_N_put_70 ?_
    refine lv_iload_n hx hb d_N_put_73 rfl (lv_at hl 2 rfl) ?_
    refine xV_i (D := D) (k := 2) (ci := 2) (q := ("StepMapModel", F_N, 12)) (wr := []) (wb := fun u => (wN h q cA 0 (nI hf) (nI c) mv cq (nI cnt) (0 + nI (fct fc (tb c SS KK VV) k)) wk SS KK VV ZZ)) (rest := [.ref q.2.2.1]) ⟨hx, hb, hml, hown, ht⟩ (c_N_at l D cA h q 0 (nI hf) (nI c) mv cq (nI cnt) (0 + nI (fct fc (tb c SS KK VV) k)) wk SS KK VV ZZ c (fsl fc (tb c SS KK VV) k)) gv_N_37 (by decide +kernel) rfl ⟨Nat.le_of_ble_eq_true rfl, Nat.le_of_ble_eq_true rfl⟩ hk hP hD hS hA [0, 1, 2, 3, 4] [] [0, 1, 2, 3, 4] rfl rfl (fun _ => rfl) ⟨rfl, rfl, rfl⟩ (by decide) rfl rfl hl.1 rfl (Nat.le_of_ble_eq_true rfl) d_N_put_74 ⟨Nat.zero_le _, Nat.zero_le _⟩ (fun r u H locs hp hP hD hS => ?_)
    have hp : r = (nI (1024 * c + (fsl fc (tb c SS KK VV) k))) := hp
    subst hp
    have hP : va_P D classes (wN h q cA 0 (nI hf) (nI c) mv cq (nI cnt) (0 + nI (fct fc (tb c SS KK VV) k)) wk SS KK VV ZZ) H := hP
    have hD : va_D A (wN h q cA 0 (nI hf) (nI c) mv cq (nI cnt) (0 + nI (fct fc (tb c SS KK VV) k)) wk SS KK VV ZZ) := hD
    have eV : (0 + nI (fct fc (tb c SS KK VV) k)) = nI (wkc fc (tb c SS KK VV) oc (tb (1 - c) SS KK VV) cur k) := by unfold wkc; rw [if_pos h1, i0a]
    rw [eV] at hP hD
    refine lv_goto (tgt := 92) hx hb d_N_put_77 (by decide) ?_
    refine lv_iload_n hx hb d_N_put_92 rfl (lv_at hl 5 rfl) ?_
    refine x_ast hx hb hk hP hD hS 3 0 rfl rfl (i := (1024 * c + (fsl fc (tb c SS KK VV) k))) (x := v) (by omega) (by omega) d_N_put_93 (fun H locs hP hD hS => ?_)
    have hP : va_P D classes (wN h q cA 0 (nI hf) (nI c) mv cq (nI cnt) (nI (wkc fc (tb c SS KK VV) oc (tb (1 - c) SS KK VV) cur k)) wk SS KK (upd VV (1024 * c + (fsl fc (tb c SS KK VV) k)) v) ZZ) H := hP
    have hD : va_D A (wN h q cA 0 (nI hf) (nI c) mv cq (nI cnt) (nI (wkc fc (tb c SS KK VV) oc (tb (1 - c) SS KK VV) cur k)) wk SS KK (upd VV (1024 * c + (fsl fc (tb c SS KK VV) k)) v) ZZ) := hD
    refine lv_goto (tgt := 138) hx hb d_N_put_94 (by decide) ?_
    refine lv_aload_n hx hb d_N_put_138 rfl (lv_at hl 3 rfl) ?_
    refine lv_aload_n hx hb d_N_put_139 rfl (lv_at hl 3 rfl) ?_
    refine va_get (D := D) (cl := classes) (ci := 2) (v := .int (nI (wkc fc (tb c SS KK VV) oc (tb (1 - c) SS KK VV) cur k))) (C := "StepMapModel") (T := F_N) (N := 12) hx hb ht i_N hown hk.1 hP 0 rfl rfl 10 (by decide) (ht _ mw_1_192) (fun _ h9 => h9) rfl d_N_put_140 ?_
    refine va_put (D := D) (cl := classes) (ci := 2) (v := .int (nI (wkc fc (tb c SS KK VV) oc (tb (1 - c) SS KK VV) cur k))) (ty := .int) (C := "StepMapModel") (T := F_N) (N := 12) hx hb ht i_N tt_N tt_N_ok n_N hown hk.1 hP hD hS 0 rfl rfl 11 (by decide) (ht _ mw_1_193) (fun _ h9 => h9) rfl (by decide +kernel) rfl rfl (Nat.le_of_ble_eq_true rfl) d_N_put_143 (fun H locs hP hD hS => ?_)
    have hP : va_P D classes (wN h q cA 0 (nI hf) (nI c) mv cq (nI cnt) (nI (wkc fc (tb c SS KK VV) oc (tb (1 - c) SS KK VV) cur k)) (nI (wkc fc (tb c SS KK VV) oc (tb (1 - c) SS KK VV) cur k)) SS KK (upd VV (1024 * c + (fsl fc (tb c SS KK VV) k)) v) ZZ) H := hP
    have hD : va_D A (wN h q cA 0 (nI hf) (nI c) mv cq (nI cnt) (nI (wkc fc (tb c SS KK VV) oc (tb (1 - c) SS KK VV) cur k)) (nI (wkc fc (tb c SS KK VV) oc (tb (1 - c) SS KK VV) cur k)) SS KK (upd VV (1024 * c + (fsl fc (tb c SS KK VV) k)) v) ZZ) := hD
    refine lv_iload hx hb d_N_put_146 (lv_at hl 0 rfl) ?_
    have t1 : pF (tb c SS KK VV) (fsl fc (tb c SS KK VV) k) v = tb c SS KK (upd VV (1024 * c + (fsl fc (tb c SS KK VV) k)) v) := by
      show _ = (sh c KK, sh c (upd VV (1024 * c + (fsl fc (tb c SS KK VV) k)) v), sh c SS)
      rw [sh_upd _ _ hs4]; rfl
    have t2 : (tb (1 - c) SS KK VV) = tb (1 - c) SS KK (upd VV (1024 * c + (fsl fc (tb c SS KK VV) k)) v) := by
      show _ = (sh (1 - c) KK, sh (1 - c) (upd VV (1024 * c + (fsl fc (tb c SS KK VV) k)) v), sh (1 - c) SS)
      rw [sh_upd_o _ _ hs4 hcc]
    have eS : (oput hf fc (tb c SS KK VV) oc (tb (1 - c) SS KK VV) cur cnt k v) = (fc, pF (tb c SS KK VV) (fsl fc (tb c SS KK VV) k) v, oc, (tb (1 - c) SS KK VV), cur, cnt, nI (wkc fc (tb c SS KK VV) oc (tb (1 - c) SS KK VV) cur k)) := by unfold oput; rw [if_pos h1]
    have hM : MRu (oput hf fc (tb c SS KK VV) oc (tb (1 - c) SS KK VV) cur cnt k v) (c, mv, cq, nI (wkc fc (tb c SS KK VV) oc (tb (1 - c) SS KK VV) cur k), SS, KK, (upd VV (1024 * c + (fsl fc (tb c SS KK VV) k)) v), ZZ) := by rw [eS]; exact ⟨hc2, t1, t2, hz, hmo⟩
    have hP : va_P D classes (wU h q cA 0 hf (oput hf fc (tb c SS KK VV) oc (tb (1 - c) SS KK VV) cur cnt k v) (c, mv, cq, nI (wkc fc (tb c SS KK VV) oc (tb (1 - c) SS KK VV) cur k), SS, KK, (upd VV (1024 * c + (fsl fc (tb c SS KK VV) k)) v), ZZ)) H := by rw [eS]; exact hP
    have hD : va_D A (wU h q cA 0 hf (oput hf fc (tb c SS KK VV) oc (tb (1 - c) SS KK VV) cur cnt k v) (c, mv, cq, nI (wkc fc (tb c SS KK VV) oc (tb (1 - c) SS KK VV) cur k), SS, KK, (upd VV (1024 * c + (fsl fc (tb c SS KK VV) k)) v), ZZ)) := by rw [eS]; exact hD
    exact hret _ _ _ _ _ _ (c, mv, cq, nI (wkc fc (tb c SS KK VV) oc (tb (1 - c) SS KK VV) cur k), SS, KK, (upd VV (1024 * c + (fsl fc (tb c SS KK VV) k)) v), ZZ) d_N_put_148 hP hD hS (⟨(by unfold oputA; rw [if_pos h1]), hM⟩) rfl
  · skip
    refine x_top (z := (-1 - nI (fsl fc (tb c SS KK VV) k))) (if_neg h1) ?_
    refine lv_istore_n (lv' := [(3, .int (-1 - nI (fsl fc (tb c SS KK VV) k))), (0, .ref h), (1, .int k), (2, .int v)]) hx hb d_N_put_19 rfl hl (by decide) rfl (fun ls hl => ?_)
    refine lv_iload_n hx hb d_N_put_20 rfl (lv_at hl 0 rfl) ?_
    refine lv_if_ge (tgt := 45) hx hb d_N_put_21 (by decide) (fun c9 => absurd c9 (fun z => by have := m1neg (n := fsl fc (tb c SS KK VV) k) (by omega); rw [Int32.lt_iff_toInt_lt] at this; rw [Int32.le_iff_toInt_le] at z; omega)) (fun _ => ?_)
    rcases id hmo with ⟨hmg, hm1, hm2, hm3⟩ | ⟨hmg, hm1⟩
    · skip
      have hoo := hlk hmg
      have hslo := (fsl_spec hoo.1 hoo.2.2).1
      have ho4 : (fsl oc (tb (1 - c) SS KK VV) k) < 1024 := by omega
      refine lv_aload_n hx hb d_N_put_24 rfl (lv_at hl 1 rfl) ?_
      refine va_get (D := D) (cl := classes) (ci := 2) (v := .int mv) (C := "StepMapModel") (T := F_N) (N := 12) hx hb ht i_N hown hk.1 hP 0 rfl rfl 7 (by decide) (ht _ mw_1_189) (fun _ h9 => h9) rfl d_N_put_25 ?_
      refine lv_if_eq (tgt := 45) hx hb d_N_put_28 (by decide) (fun c9 => absurd c9 (fun z => by rw [hm1] at z; exact absurd z (by decide))) (fun _ => ?_)
      refine lv_aload_n hx hb d_N_put_31 rfl (lv_at hl 1 rfl) ?_
      refine lv_iload_n hx hb d_N_put_32 rfl (lv_at hl 2 rfl) ?_
      refine lv_iconst (v := 1) hx hb d_N_put_33 (by decide) ?_
      refine lv_aload_n hx hb d_N_put_34 rfl (lv_at hl 1 rfl) ?_
      refine va_get (D := D) (cl := classes) (ci := 2) (v := .int (nI c)) (C := "StepMapModel") (T := F_N) (N := 12) hx hb ht i_N hown hk.1 hP 0 rfl rfl 6 (by decide) (ht _ mw_1_188) (fun _ h9 => h9) rfl d_N_put_35 ?_
      refine lv_isub hx hb d_N_put_38 ?_
      refine x_top (z := (nI (1 - c))) (pk_sub (a := 1) (b := c) (by omega)) ?_
      refine xV_i (D := D) (k := 2) (ci := 2) (q := ("StepMapModel", F_N, 12)) (wr := []) (wb := fun u => (wN h q cA 0 (nI hf) (nI c) mv cq (nI cnt) ((0 + nI (fct fc (tb c SS KK VV) k)) + nI (fct oc (tb (1 - c) SS KK VV) k)) wk SS KK VV ZZ)) (rest := []) ⟨hx, hb, hml, hown, ht⟩ (c_N_look l D cA h q 0 (nI hf) (nI c) mv cq (nI cnt) (0 + nI (fct fc (tb c SS KK VV) k)) wk SS KK VV ZZ k (1 - c) oc hoo.1 (by omega) hm3 hoo.2.2) gv_N_49 (by decide +kernel) rfl ⟨Nat.le_of_ble_eq_true rfl, Nat.le_of_ble_eq_true rfl⟩ hk hP hD hS hA [0, 1, 2, 3, 4] [] [0, 1, 2, 3, 4] rfl rfl (fun _ => rfl) ⟨rfl, rfl, rfl⟩ (by decide) rfl rfl hl.1 rfl (Nat.le_of_ble_eq_true rfl) d_N_put_39 ⟨Nat.zero_le _, Nat.zero_le _⟩ (fun r u H locs hp hP hD hS => ?_)
      have hp : r = (lookA oc (tb (1 - c) SS KK VV) k) := hp
      subst hp
      have hP : va_P D classes (wN h q cA 0 (nI hf) (nI c) mv cq (nI cnt) ((0 + nI (fct fc (tb c SS KK VV) k)) + nI (fct oc (tb (1 - c) SS KK VV) k)) wk SS KK VV ZZ) H := hP
      have hD : va_D A (wN h q cA 0 (nI hf) (nI c) mv cq (nI cnt) ((0 + nI (fct fc (tb c SS KK VV) k)) + nI (fct oc (tb (1 - c) SS KK VV) k)) wk SS KK VV ZZ) := hD
      have eV : ((0 + nI (fct fc (tb c SS KK VV) k)) + nI (fct oc (tb (1 - c) SS KK VV) k)) = nI (wkc fc (tb c SS KK VV) oc (tb (1 - c) SS KK VV) cur k) := by unfold wkc; rw [if_neg h1, if_pos hmg, i0a, nI_add]
      rw [eV] at hP hD
      by_cases h2 : sh (1 - c) SS (fsl oc (tb (1 - c) SS KK VV) k) = 1
      · skip
        refine x_top (z := (nI (fsl oc (tb (1 - c) SS KK VV) k))) (if_pos h2) ?_
        refine lv_goto (tgt := 46) hx hb d_N_put_42 (by decide) ?_
        refine lv_istore (lv' := [(4, .int (nI (fsl oc (tb (1 - c) SS KK VV) k))), (3, .int (-1 - nI (fsl fc (tb c SS KK VV) k))), (0, .ref h), (1, .int k), (2, .int v)]) hx hb d_N_put_46 hl (by decide) rfl (fun ls hl => ?_)
        refine lv_iconst (v := 0) hx hb d_N_put_48 (by decide) ?_
        refine lv_istore (lv' := [(5, .int 0), (4, .int (nI (fsl oc (tb (1 - c) SS KK VV) k))), (3, .int (-1 - nI (fsl fc (tb c SS KK VV) k))), (0, .ref h), (1, .int k), (2, .int v)]) hx hb d_N_put_49 hl (by decide) rfl (fun ls hl => ?_)
        refine lv_iload_n hx hb d_N_put_51 rfl (lv_at hl 2 rfl) ?_
        refine lv_if_ge (tgt := 60) hx hb d_N_put_52 (by decide) (fun c9 => absurd c9 (fun z => by have := m1neg (n := (fsl fc (tb c SS KK VV) k)) (by omega); rw [Int32.lt_iff_toInt_lt] at this; rw [Int32.le_iff_toInt_le] at z; omega)) (fun _ => ?_)
        refine lv_iload hx hb d_N_put_55 (lv_at hl 1 rfl) ?_
        refine lv_if_lt (tgt := 97) hx hb d_N_put_57 (by decide) (fun c9 => absurd c9 (nI_pos (by omega))) (fun _ => ?_)
        refine lv_aload_n hx hb d_N_put_60 rfl (lv_at hl 3 rfl) ?_
        refine va_get (D := D) (cl := classes) (ci := 2) (v := .ref q.2.2.1) (C := "StepMapModel") (T := F_N) (N := 12) hx hb ht i_N hown hk.1 hP 0 rfl rfl 4 (by decide) (ht _ mw_1_186) (fun _ h9 => h9) rfl d_N_put_61 ?_
        refine lv_iload_n hx hb d_N_put_64 rfl (lv_at hl 2 rfl) ?_
        refine lv_if_lt (tgt := 80) hx hb d_N_put_65 (by decide) (fun _ => ?_) (fun c9 => absurd (m1neg (by omega)) c9)
        refine lv_aload_n hx hb d_N_put_80 rfl (lv_at hl 3 rfl) ?_
        refine lv_iconst (v := 1) hx hb d_N_put_81 (by decide) ?_
        refine lv_aload_n hx hb d_N_put_82 rfl (lv_at hl 3 rfl) ?_
        refine va_get (D := D) (cl := classes) (ci := 2) (v := .int (nI c)) (C := "StepMapModel") (T := F_N) (N := 12) hx hb ht i_N hown hk.1 hP 0 rfl rfl 6 (by decide) (ht _ mw_1_188) (fun _ h9 => h9) rfl d_N_put_83 ?_
        refine lv_isub hx hb d_N_put_86 ?_
        refine x_top (z := (nI (1 - c))) (pk_sub (a := 1) (b := c) (by omega)) ?_
        refine lv_iload hx hb d_N_put_87 (lv_at hl 1 rfl) ?_
        refine xV_i (D := D) (k := 2) (ci := 2) (q := ("StepMapModel", F_N, 12)) (wr := []) (wb := fun u => (wN h q cA 0 (nI hf) (nI c) mv cq (nI cnt) (nI (wkc fc (tb c SS KK VV) oc (tb (1 - c) SS KK VV) cur k)) wk SS KK VV ZZ)) (rest := [.ref q.2.2.1]) ⟨hx, hb, hml, hown, ht⟩ (c_N_at l D cA h q 0 (nI hf) (nI c) mv cq (nI cnt) (nI (wkc fc (tb c SS KK VV) oc (tb (1 - c) SS KK VV) cur k)) wk SS KK VV ZZ (1 - c) (fsl oc (tb (1 - c) SS KK VV) k)) gv_N_37 (by decide +kernel) rfl ⟨Nat.le_of_ble_eq_true rfl, Nat.le_of_ble_eq_true rfl⟩ hk hP hD hS hA [0, 1, 2, 3, 4] [] [0, 1, 2, 3, 4] rfl rfl (fun _ => rfl) ⟨rfl, rfl, rfl⟩ (by decide) rfl rfl hl.1 rfl (Nat.le_of_ble_eq_true rfl) d_N_put_89 ⟨Nat.zero_le _, Nat.zero_le _⟩ (fun r u H locs hp hP hD hS => ?_)
        have hp : r = (nI (1024 * (1 - c) + (fsl oc (tb (1 - c) SS KK VV) k))) := hp
        subst hp
        have hP : va_P D classes (wN h q cA 0 (nI hf) (nI c) mv cq (nI cnt) (nI (wkc fc (tb c SS KK VV) oc (tb (1 - c) SS KK VV) cur k)) wk SS KK VV ZZ) H := hP
        have hD : va_D A (wN h q cA 0 (nI hf) (nI c) mv cq (nI cnt) (nI (wkc fc (tb c SS KK VV) oc (tb (1 - c) SS KK VV) cur k)) wk SS KK VV ZZ) := hD
        refine lv_iload_n hx hb d_N_put_92 rfl (lv_at hl 5 rfl) ?_
        refine x_ast hx hb hk hP hD hS 3 0 rfl rfl (i := (1024 * (1 - c) + (fsl oc (tb (1 - c) SS KK VV) k))) (x := v) (by omega) (by omega) d_N_put_93 (fun H locs hP hD hS => ?_)
        have hP : va_P D classes (wN h q cA 0 (nI hf) (nI c) mv cq (nI cnt) (nI (wkc fc (tb c SS KK VV) oc (tb (1 - c) SS KK VV) cur k)) wk SS KK (upd VV (1024 * (1 - c) + (fsl oc (tb (1 - c) SS KK VV) k)) v) ZZ) H := hP
        have hD : va_D A (wN h q cA 0 (nI hf) (nI c) mv cq (nI cnt) (nI (wkc fc (tb c SS KK VV) oc (tb (1 - c) SS KK VV) cur k)) wk SS KK (upd VV (1024 * (1 - c) + (fsl oc (tb (1 - c) SS KK VV) k)) v) ZZ) := hD
        refine lv_goto (tgt := 138) hx hb d_N_put_94 (by decide) ?_
        refine lv_aload_n hx hb d_N_put_138 rfl (lv_at hl 3 rfl) ?_
        refine lv_aload_n hx hb d_N_put_139 rfl (lv_at hl 3 rfl) ?_
        refine va_get (D := D) (cl := classes) (ci := 2) (v := .int (nI (wkc fc (tb c SS KK VV) oc (tb (1 - c) SS KK VV) cur k))) (C := "StepMapModel") (T := F_N) (N := 12) hx hb ht i_N hown hk.1 hP 0 rfl rfl 10 (by decide) (ht _ mw_1_192) (fun _ h9 => h9) rfl d_N_put_140 ?_
        refine va_put (D := D) (cl := classes) (ci := 2) (v := .int (nI (wkc fc (tb c SS KK VV) oc (tb (1 - c) SS KK VV) cur k))) (ty := .int) (C := "StepMapModel") (T := F_N) (N := 12) hx hb ht i_N tt_N tt_N_ok n_N hown hk.1 hP hD hS 0 rfl rfl 11 (by decide) (ht _ mw_1_193) (fun _ h9 => h9) rfl (by decide +kernel) rfl rfl (Nat.le_of_ble_eq_true rfl) d_N_put_143 (fun H locs hP hD hS => ?_)
        have hP : va_P D classes (wN h q cA 0 (nI hf) (nI c) mv cq (nI cnt) (nI (wkc fc (tb c SS KK VV) oc (tb (1 - c) SS KK VV) cur k)) (nI (wkc fc (tb c SS KK VV) oc (tb (1 - c) SS KK VV) cur k)) SS KK (upd VV (1024 * (1 - c) + (fsl oc (tb (1 - c) SS KK VV) k)) v) ZZ) H := hP
        have hD : va_D A (wN h q cA 0 (nI hf) (nI c) mv cq (nI cnt) (nI (wkc fc (tb c SS KK VV) oc (tb (1 - c) SS KK VV) cur k)) (nI (wkc fc (tb c SS KK VV) oc (tb (1 - c) SS KK VV) cur k)) SS KK (upd VV (1024 * (1 - c) + (fsl oc (tb (1 - c) SS KK VV) k)) v) ZZ) := hD
        refine lv_iload hx hb d_N_put_146 (lv_at hl 0 rfl) ?_
        have t1 : (tb c SS KK VV) = tb c SS KK (upd VV (1024 * (1 - c) + (fsl oc (tb (1 - c) SS KK VV) k)) v) := by
          show _ = (sh c KK, sh c (upd VV (1024 * (1 - c) + (fsl oc (tb (1 - c) SS KK VV) k)) v), sh c SS)
          rw [sh_upd_o _ _ ho4 hcc2]
        have t2 : pF (tb (1 - c) SS KK VV) (fsl oc (tb (1 - c) SS KK VV) k) v = tb (1 - c) SS KK (upd VV (1024 * (1 - c) + (fsl oc (tb (1 - c) SS KK VV) k)) v) := by
          show _ = (sh (1 - c) KK, sh (1 - c) (upd VV (1024 * (1 - c) + (fsl oc (tb (1 - c) SS KK VV) k)) v), sh (1 - c) SS)
          rw [sh_upd _ _ ho4]; rfl
        have eS : (oput hf fc (tb c SS KK VV) oc (tb (1 - c) SS KK VV) cur cnt k v) = (fc, (tb c SS KK VV), oc, pF (tb (1 - c) SS KK VV) (fsl oc (tb (1 - c) SS KK VV) k) v, cur, cnt, nI (wkc fc (tb c SS KK VV) oc (tb (1 - c) SS KK VV) cur k)) := by unfold oput; rw [if_neg h1, if_pos ⟨hmg, h2⟩]
        have hM : MRu (oput hf fc (tb c SS KK VV) oc (tb (1 - c) SS KK VV) cur cnt k v) (c, mv, cq, nI (wkc fc (tb c SS KK VV) oc (tb (1 - c) SS KK VV) cur k), SS, KK, (upd VV (1024 * (1 - c) + (fsl oc (tb (1 - c) SS KK VV) k)) v), ZZ) := by rw [eS]; exact ⟨hc2, t1, t2, hz, hmo⟩
        have hP : va_P D classes (wU h q cA 0 hf (oput hf fc (tb c SS KK VV) oc (tb (1 - c) SS KK VV) cur cnt k v) (c, mv, cq, nI (wkc fc (tb c SS KK VV) oc (tb (1 - c) SS KK VV) cur k), SS, KK, (upd VV (1024 * (1 - c) + (fsl oc (tb (1 - c) SS KK VV) k)) v), ZZ)) H := by rw [eS]; exact hP
        have hD : va_D A (wU h q cA 0 hf (oput hf fc (tb c SS KK VV) oc (tb (1 - c) SS KK VV) cur cnt k v) (c, mv, cq, nI (wkc fc (tb c SS KK VV) oc (tb (1 - c) SS KK VV) cur k), SS, KK, (upd VV (1024 * (1 - c) + (fsl oc (tb (1 - c) SS KK VV) k)) v), ZZ)) := by rw [eS]; exact hD
        exact hret _ _ _ _ _ _ (c, mv, cq, nI (wkc fc (tb c SS KK VV) oc (tb (1 - c) SS KK VV) cur k), SS, KK, (upd VV (1024 * (1 - c) + (fsl oc (tb (1 - c) SS KK VV) k)) v), ZZ) d_N_put_148 hP hD hS (⟨(by unfold oputA; rw [if_neg h1, if_pos ⟨hmg, h2⟩]), hM⟩) rfl
      · skip
        refine x_top (z := (-1 - nI (fsl oc (tb (1 - c) SS KK VV) k))) (if_neg h2) ?_
        refine lv_goto (tgt := 46) hx hb d_N_put_42 (by decide) ?_
        refine lv_istore (lv' := [(4, .int (-1 - nI (fsl oc (tb (1 - c) SS KK VV) k))), (3, .int (-1 - nI (fsl fc (tb c SS KK VV) k))), (0, .ref h), (1, .int k), (2, .int v)]) hx hb d_N_put_46 hl (by decide) rfl (fun ls hl => ?_)
        refine lv_iconst (v := 0) hx hb d_N_put_48 (by decide) ?_
        refine lv_istore (lv' := [(5, .int 0), (4, .int (-1 - nI (fsl oc (tb (1 - c) SS KK VV) k))), (3, .int (-1 - nI (fsl fc (tb c SS KK VV) k))), (0, .ref h), (1, .int k), (2, .int v)]) hx hb d_N_put_49 hl (by decide) rfl (fun ls hl => ?_)
        refine lv_iload_n hx hb d_N_put_51 rfl (lv_at hl 2 rfl) ?_
        refine lv_if_ge (tgt := 60) hx hb d_N_put_52 (by decide) (fun c9 => absurd c9 (fun z => by have := m1neg (n := (fsl fc (tb c SS KK VV) k)) (by omega); rw [Int32.lt_iff_toInt_lt] at this; rw [Int32.le_iff_toInt_le] at z; omega)) (fun _ => ?_)
        refine lv_iload hx hb d_N_put_55 (lv_at hl 1 rfl) ?_
        refine lv_if_lt (tgt := 97) hx hb d_N_put_57 (by decide) (fun _ => ?_) (fun c9 => absurd (m1neg (by omega)) c9)
        exact new h1 (fun z => h2 z.2) _ _ _ _ hP hD hS (lv_sub hl [0, 1, 2, 3, 4, 5] rfl)
    · skip
      have eV : (0 + nI (fct fc (tb c SS KK VV) k)) = nI (wkc fc (tb c SS KK VV) oc (tb (1 - c) SS KK VV) cur k) := by unfold wkc; rw [if_neg h1, if_neg hmg, i0a]; rfl
      rw [eV] at hP hD
      refine lv_aload_n hx hb d_N_put_24 rfl (lv_at hl 1 rfl) ?_
      refine va_get (D := D) (cl := classes) (ci := 2) (v := .int mv) (C := "StepMapModel") (T := F_N) (N := 12) hx hb ht i_N hown hk.1 hP 0 rfl rfl 7 (by decide) (ht _ mw_1_189) (fun _ h9 => h9) rfl d_N_put_25 ?_
      refine lv_if_eq (tgt := 45) hx hb d_N_put_28 (by decide) (fun _ => ?_) (fun c9 => absurd (hm1) c9)
      refine lv_iconst (v := (-1)) hx hb d_N_put_45 (by decide) ?_
      refine lv_istore (lv' := [(4, .int (-1)), (3, .int (-1 - nI (fsl fc (tb c SS KK VV) k))), (0, .ref h), (1, .int k), (2, .int v)]) hx hb d_N_put_46 hl (by decide) rfl (fun ls hl => ?_)
      refine lv_iconst (v := 0) hx hb d_N_put_48 (by decide) ?_
      refine lv_istore (lv' := [(5, .int 0), (4, .int (-1)), (3, .int (-1 - nI (fsl fc (tb c SS KK VV) k))), (0, .ref h), (1, .int k), (2, .int v)]) hx hb d_N_put_49 hl (by decide) rfl (fun ls hl => ?_)
      refine lv_iload_n hx hb d_N_put_51 rfl (lv_at hl 2 rfl) ?_
      refine lv_if_ge (tgt := 60) hx hb d_N_put_52 (by decide) (fun c9 => absurd c9 (fun z => by have := m1neg (n := (fsl fc (tb c SS KK VV) k)) (by omega); rw [Int32.lt_iff_toInt_lt] at this; rw [Int32.le_iff_toInt_le] at z; omega)) (fun _ => ?_)
      refine lv_iload hx hb d_N_put_55 (lv_at hl 1 rfl) ?_
      refine lv_if_lt (tgt := 97) hx hb d_N_put_57 (by decide) (fun _ => ?_) (fun c9 => absurd (by decide) c9)
      exact new h1 (fun z => hmg z.1) _ _ _ _ hP hD hS (lv_sub hl [0, 1, 2, 3, 4, 5] rfl)
set_option maxHeartbeats 4000000 in
set_option maxRecDepth 100000 in
theorem c_N_remove (l : Launch) (D : va_G) (cA : ClassId) (h : Nat) (q : Ad) (th : Int32) (hf c : Nat) (mv cq : Int32) (cnt : Nat) (vi wk : Int32) (SS KK VV ZZ : Nat → Int32) (fc oc cur : Nat) (k : Int32) (hmr : MR fc (tb c SS KK VV) oc (tb (1 - c) SS KK VV) cur c mv cq SS KK VV ZZ) (hiv : Iv hf fc (tb c SS KK VV) oc (tb (1 - c) SS KK VV) cur cnt) : Mi l D [(cA, .int)] y_N_remove b_N_remove 4 (some .boolean) 4 92 [.ref h, .int k] (wN h q cA th (nI hf) (nI c) mv cq (nI cnt) vi wk SS KK VV ZZ) (fun r (u : Un) => r = oremA fc (tb c SS KK VV) oc (tb (1 - c) SS KK VV) cur k ∧ MRu (orem fc (tb c SS KK VV) oc (tb (1 - c) SS KK VV) cur cnt k) u) (fun u => wU h q cA 0 hf (orem fc (tb c SS KK VV) oc (tb (1 - c) SS KK VV) cur cnt k) u) := by
  refine mz_start (own := "StepMapModel") (by decide +kernel) rfl (Nat.le_of_ble_eq_true rfl) ?_
  intro p e s m args below meth cd ls A Q hx hb hml hown ht hk hP hD hA hl hret
  have hS : va_S A s.heap s.heap [] := va_S.rf
  have hl : lv_has ls 4 [(0, .ref h), (1, .int k)] := hl
  obtain ⟨hh, hfh, hf8, hcu, ho, hct⟩ := hiv.bounds
  have hpf := hiv.2.1
  have hfo := hiv.lk k
  have hsl := (fsl_spec hpf hfo).1
  have hlk : cur < oc → pw oc ∧ oc ≤ hf ∧ fok oc (tb (1 - c) SS KK VV) k := fun z => ⟨(hiv.old z).1, ho, hiv.lkO z k⟩
  obtain ⟨hc2, -, -, hz, hmo⟩ := id hmr
  have hcc : ¬ c = 1 - c := by omega
  have hcc2 : ¬ 1 - c = c := by omega
  have hs4 : (fsl fc (tb c SS KK VV) k) < 1024 := by omega
  refine lv_aload_n hx hb d_N_remove_0 rfl (lv_at hl 0 rfl) ?_
  refine lv_iconst (v := 0) hx hb d_N_remove_1 (by decide) ?_
  refine va_put (D := D) (cl := classes) (ci := 2) (v := .int 0) (ty := .int) (C := "StepMapModel") (T := F_N) (N := 12) hx hb ht i_N tt_N tt_N_ok n_N hown hk.1 hP hD hS 0 rfl rfl 0 (by decide) (ht _ mw_1_182) (fun _ h9 => h9) rfl (by decide +kernel) rfl rfl (Nat.le_of_ble_eq_true rfl) d_N_remove_2 (fun H locs hP hD hS => ?_)
  have hP : va_P D classes (wN h q cA 0 (nI hf) (nI c) mv cq (nI cnt) vi wk SS KK VV ZZ) H := hP
  have hD : va_D A (wN h q cA 0 (nI hf) (nI c) mv cq (nI cnt) vi wk SS KK VV ZZ) := hD
  refine lv_aload_n hx hb d_N_remove_5 rfl (lv_at hl 0 rfl) ?_
  refine lv_iconst (v := 0) hx hb d_N_remove_6 (by decide) ?_
  refine va_put (D := D) (cl := classes) (ci := 2) (v := .int 0) (ty := .int) (C := "StepMapModel") (T := F_N) (N := 12) hx hb ht i_N tt_N tt_N_ok n_N hown hk.1 hP hD hS 0 rfl rfl 10 (by decide) (ht _ mw_1_192) (fun _ h9 => h9) rfl (by decide +kernel) rfl rfl (Nat.le_of_ble_eq_true rfl) d_N_remove_7 (fun H locs hP hD hS => ?_)
  have hP : va_P D classes (wN h q cA 0 (nI hf) (nI c) mv cq (nI cnt) 0 wk SS KK VV ZZ) H := hP
  have hD : va_D A (wN h q cA 0 (nI hf) (nI c) mv cq (nI cnt) 0 wk SS KK VV ZZ) := hD
  refine lv_aload_n hx hb d_N_remove_10 rfl (lv_at hl 0 rfl) ?_
  refine lv_iload_n hx hb d_N_remove_11 rfl (lv_at hl 1 rfl) ?_
  refine lv_aload_n hx hb d_N_remove_12 rfl (lv_at hl 0 rfl) ?_
  refine va_get (D := D) (cl := classes) (ci := 2) (v := .int (nI c)) (C := "StepMapModel") (T := F_N) (N := 12) hx hb ht i_N hown hk.1 hP 0 rfl rfl 6 (by decide) (ht _ mw_1_188) (fun _ h9 => h9) rfl d_N_remove_13 ?_
  refine xV_i (D := D) (k := 2) (ci := 2) (q := ("StepMapModel", F_N, 12)) (wr := []) (wb := fun u => (wN h q cA 0 (nI hf) (nI c) mv cq (nI cnt) (0 + nI (fct fc (tb c SS KK VV) k)) wk SS KK VV ZZ)) (rest := []) ⟨hx, hb, hml, hown, ht⟩ (c_N_look l D cA h q 0 (nI hf) (nI c) mv cq (nI cnt) 0 wk SS KK VV ZZ k c fc hpf hc2 hz hfo) gv_N_49 (by decide +kernel) rfl ⟨Nat.le_of_ble_eq_true rfl, Nat.le_of_ble_eq_true rfl⟩ hk hP hD hS hA [0, 1, 2, 3, 4] [] [0, 1, 2, 3, 4] rfl rfl (fun _ => rfl) ⟨rfl, rfl, rfl⟩ (by decide) rfl rfl hl.1 rfl (Nat.le_of_ble_eq_true rfl) d_N_remove_16 ⟨Nat.zero_le _, Nat.zero_le _⟩ (fun r u H locs hp hP hD hS => ?_)
  have hp : r = (lookA fc (tb c SS KK VV) k) := hp
  subst hp
  have hP : va_P D classes (wN h q cA 0 (nI hf) (nI c) mv cq (nI cnt) (0 + nI (fct fc (tb c SS KK VV) k)) wk SS KK VV ZZ) H := hP
  have hD : va_D A (wN h q cA 0 (nI hf) (nI c) mv cq (nI cnt) (0 + nI (fct fc (tb c SS KK VV) k)) wk SS KK VV ZZ) := hD
  by_cases h1 : sh c SS (fsl fc (tb c SS KK VV) k) = 1
  · skip
    refine x_top (z := (nI (fsl fc (tb c SS KK VV) k))) (if_pos h1) ?_
    refine lv_istore_n (lv' := [(2, .int (nI (fsl fc (tb c SS KK VV) k))), (0, .ref h), (1, .int k)]) hx hb d_N_remove_19 rfl hl (by decide) rfl (fun ls hl => ?_)
    refine lv_iload_n hx hb d_N_remove_20 rfl (lv_at hl 0 rfl) ?_
    refine lv_if_ge (tgt := 45) hx hb d_N_remove_21 (by decide) (fun _ => ?_) (fun c9 => absurd (nI_pos' (by omega)) c9)
    refine lv_iconst (v := (-1)) hx hb d_N_remove_45 (by decide) ?_
    refine lv_istore_n (lv' := [(3, .int (-1)), (2, .int (nI (fsl fc (tb c SS KK VV) k))), (0, .ref h), (1, .int k)]) hx hb d_N_remove_46 rfl hl (by decide) rfl (fun ls hl => ?_)
    refine lv_iload_n hx hb d_N_remove_47 rfl (lv_at hl 1 rfl) ?_
    refine lv_if_lt (tgt := 59) hx hb d_N_remove_48 (by decide) (fun c9 => absurd c9 (nI_pos (by omega))) (fun _ => ?_)
    have eV : (0 + nI (fct fc (tb c SS KK VV) k)) = nI (wkc fc (tb c SS KK VV) oc (tb (1 - c) SS KK VV) cur k) := by unfold wkc; rw [if_pos h1, i0a]
    rw [eV] at hP hD
    refine lv_aload_n hx hb d_N_remove_51 rfl (lv_at hl 2 rfl) ?_
    refine lv_iload_n hx hb d_N_remove_52 rfl (lv_at hl 1 rfl) ?_
    have hcp : 1 ≤ cnt := by
      have z1 := hc_pos hsl h1
      rcases hiv.2.2.2.2.2.2 with ⟨-, -, z2, -⟩ | ⟨-, -, -, -, z2, -⟩
      · have z2 : cnt = hc (sh c SS) fc := z2; omega
      · have z3 : cnt = hc (sh c SS) fc + hc (sh (1 - c) SS) oc := z2.2.2.2.2.2.2.2.2; omega
    refine xV_v (D := D) (k := 1) (ci := 2) (q := ("StepMapModel", F_N, 12)) (wr := []) (wb := fun u => (wN h q cA 0 (nI hf) (nI c) mv cq (nI cnt) (nI (wkc fc (tb c SS KK VV) oc (tb (1 - c) SS KK VV) cur k) + nI (cuc fc (tb c SS KK VV) (fsl fc (tb c SS KK VV) k))) wk u.1 u.2.1 u.2.2 ZZ)) (rest := []) ⟨hx, hb, hml, hown, ht⟩ (c_N_free l D cA h q 0 (nI hf) c mv cq (nI cnt) (nI (wkc fc (tb c SS KK VV) oc (tb (1 - c) SS KK VV) cur k)) wk SS KK VV ZZ (fsl fc (tb c SS KK VV) k) fc hpf hc2 hz hiv.2.2.2.1 hsl h1 (enz_of hpf (nx_lt hpf _) hiv.zero)) gv_N_88 (by decide +kernel) rfl ⟨Nat.le_of_ble_eq_true rfl, Nat.le_of_ble_eq_true rfl⟩ hk hP hD hS hA [0, 1, 2, 3, 4] [] [0, 1, 2, 3, 4] rfl rfl (fun _ => rfl) ⟨rfl, rfl, rfl⟩ (by decide) rfl rfl hl.1 rfl (Nat.le_of_ble_eq_true rfl) d_N_remove_53 ⟨Nat.zero_le _, Nat.zero_le _⟩ (fun u H locs hp hP hD hS => ?_)
    have hP : va_P D classes (wN h q cA 0 (nI hf) (nI c) mv cq (nI cnt) (nI (wkc fc (tb c SS KK VV) oc (tb (1 - c) SS KK VV) cur k) + nI (cuc fc (tb c SS KK VV) (fsl fc (tb c SS KK VV) k))) wk u.1 u.2.1 u.2.2 ZZ) H := hP
    have hD : va_D A (wN h q cA 0 (nI hf) (nI c) mv cq (nI cnt) (nI (wkc fc (tb c SS KK VV) oc (tb (1 - c) SS KK VV) cur k) + nI (cuc fc (tb c SS KK VV) (fsl fc (tb c SS KK VV) k))) wk u.1 u.2.1 u.2.2 ZZ) := hD
    obtain ⟨S1, K1, V1⟩ := u
    obtain ⟨t1, t2⟩ : tb c S1 K1 V1 = cup fc (tb c SS KK VV) (fsl fc (tb c SS KK VV) k) ∧ tb (1 - c) S1 K1 V1 = (tb (1 - c) SS KK VV) := hp
    have hP : va_P D classes (wN h q cA 0 (nI hf) (nI c) mv cq (nI cnt) (nI (wkc fc (tb c SS KK VV) oc (tb (1 - c) SS KK VV) cur k) + nI (cuc fc (tb c SS KK VV) (fsl fc (tb c SS KK VV) k))) wk S1 K1 V1 ZZ) H := hP
    have hD : va_D A (wN h q cA 0 (nI hf) (nI c) mv cq (nI cnt) (nI (wkc fc (tb c SS KK VV) oc (tb (1 - c) SS KK VV) cur k) + nI (cuc fc (tb c SS KK VV) (fsl fc (tb c SS KK VV) k))) wk S1 K1 V1 ZZ) := hD
    refine lv_goto (tgt := 80) hx hb d_N_remove_56 (by decide) ?_
    refine lv_iload_n hx hb d_N_remove_80 rfl (lv_at hl 1 rfl) ?_
    refine lv_if_ge (tgt := 88) hx hb d_N_remove_81 (by decide) (fun _ => ?_) (fun c9 => absurd (nI_pos' (by omega)) c9)
    refine lv_aload_n hx hb d_N_remove_88 rfl (lv_at hl 2 rfl) ?_
    refine lv_dup hx hb d_N_remove_89 rfl ?_
    refine va_get (D := D) (cl := classes) (ci := 2) (v := .int (nI cnt)) (C := "StepMapModel") (T := F_N) (N := 12) hx hb ht i_N hown hk.1 hP 0 rfl rfl 9 (by decide) (ht _ mw_1_191) (fun _ h9 => h9) rfl d_N_remove_90 ?_
    refine lv_iconst (v := 1) hx hb d_N_remove_93 (by decide) ?_
    refine lv_isub hx hb d_N_remove_94 ?_
    refine x_top (z := (nI (cnt - 1))) (pk_sub hcp) ?_
    refine va_put (D := D) (cl := classes) (ci := 2) (v := .int (nI (cnt - 1))) (ty := .int) (C := "StepMapModel") (T := F_N) (N := 12) hx hb ht i_N tt_N tt_N_ok n_N hown hk.1 hP hD hS 0 rfl rfl 9 (by decide) (ht _ mw_1_191) (fun _ h9 => h9) rfl (by decide +kernel) rfl rfl (Nat.le_of_ble_eq_true rfl) d_N_remove_95 (fun H locs hP hD hS => ?_)
    have hP : va_P D classes (wN h q cA 0 (nI hf) (nI c) mv cq (nI (cnt - 1)) (nI (wkc fc (tb c SS KK VV) oc (tb (1 - c) SS KK VV) cur k) + nI (cuc fc (tb c SS KK VV) (fsl fc (tb c SS KK VV) k))) wk S1 K1 V1 ZZ) H := hP
    have hD : va_D A (wN h q cA 0 (nI hf) (nI c) mv cq (nI (cnt - 1)) (nI (wkc fc (tb c SS KK VV) oc (tb (1 - c) SS KK VV) cur k) + nI (cuc fc (tb c SS KK VV) (fsl fc (tb c SS KK VV) k))) wk S1 K1 V1 ZZ) := hD
    refine lv_aload_n hx hb d_N_remove_98 rfl (lv_at hl 2 rfl) ?_
    refine xV_v (D := D) (k := 0) (ci := 2) (q := ("StepMapModel", F_N, 12)) (wr := []) (wb := fun u => (wU h q cA 0 hf (stl fc (tb c S1 K1 V1) oc (tb (1 - c) S1 K1 V1) cur (cnt - 1) wk) u)) (rest := []) ⟨hx, hb, hml, hown, ht⟩ (c_N_settle l D cA h q 0 hf c mv cq (cnt - 1) (nI (wkc fc (tb c SS KK VV) oc (tb (1 - c) SS KK VV) cur k) + nI (cuc fc (tb c SS KK VV) (fsl fc (tb c SS KK VV) k))) wk S1 K1 V1 ZZ fc oc cur ((wkc fc (tb c SS KK VV) oc (tb (1 - c) SS KK VV) cur k) + cuc fc (tb c SS KK VV) (fsl fc (tb c SS KK VV) k)) ⟨hc2, rfl, rfl, hz, hmo⟩ (by rw [t1, t2]; exact remF_SI hiv hsl h1) (nI_add _ _)) gv_N_75 (by decide +kernel) rfl ⟨Nat.le_of_ble_eq_true rfl, Nat.le_of_ble_eq_true rfl⟩ hk hP hD hS hA [0, 1, 2, 3, 4] [] [0, 1, 2, 3, 4] rfl rfl (fun _ => rfl) ⟨rfl, rfl, rfl⟩ (by decide) rfl rfl hl.1 rfl (Nat.le_of_ble_eq_true rfl) d_N_remove_99 ⟨Nat.zero_le _, Nat.zero_le _⟩ (fun u H locs hp hP hD hS => ?_)
    have hP : va_P D classes (wU h q cA 0 hf (stl fc (tb c S1 K1 V1) oc (tb (1 - c) S1 K1 V1) cur (cnt - 1) wk) u) H := hP
    have hD : va_D A (wU h q cA 0 hf (stl fc (tb c S1 K1 V1) oc (tb (1 - c) S1 K1 V1) cur (cnt - 1) wk) u) := hD
    rw [t1, t2] at hP hD hp
    have eT := stl_wk fc (cup fc (tb c SS KK VV) (fsl fc (tb c SS KK VV) k)) oc (tb (1 - c) SS KK VV) cur (cnt - 1) wk (nI (stw fc (cup fc (tb c SS KK VV) (fsl fc (tb c SS KK VV) k)) oc (tb (1 - c) SS KK VV) cur ((wkc fc (tb c SS KK VV) oc (tb (1 - c) SS KK VV) cur k) + cuc fc (tb c SS KK VV) (fsl fc (tb c SS KK VV) k))))
    obtain ⟨Sx, eSx⟩ : ∃ z, z = (stl fc (cup fc (tb c SS KK VV) (fsl fc (tb c SS KK VV) k)) oc (tb (1 - c) SS KK VV) cur (cnt - 1) wk) := ⟨_, rfl⟩
    rw [← eSx] at hP hD hp eT
    obtain ⟨c2, m2, q2, v2, S2, K2, V2, Z2⟩ := u
    obtain ⟨hMx, hvx⟩ : MRu Sx (c2, m2, q2, v2, S2, K2, V2, Z2) ∧ v2 = nI (stw fc (cup fc (tb c SS KK VV) (fsl fc (tb c SS KK VV) k)) oc (tb (1 - c) SS KK VV) cur ((wkc fc (tb c SS KK VV) oc (tb (1 - c) SS KK VV) cur k) + cuc fc (tb c SS KK VV) (fsl fc (tb c SS KK VV) k))) := hp
    have hP : va_P D classes (wN h q cA 0 (nI hf) (nI c2) m2 q2 (nI Sx.2.2.2.2.2.1) v2 Sx.2.2.2.2.2.2 S2 K2 V2 Z2) H := hP
    have hD : va_D A (wN h q cA 0 (nI hf) (nI c2) m2 q2 (nI Sx.2.2.2.2.2.1) v2 Sx.2.2.2.2.2.2 S2 K2 V2 Z2) := hD
    refine lv_aload_n hx hb d_N_remove_102 rfl (lv_at hl 2 rfl) ?_
    refine lv_aload_n hx hb d_N_remove_103 rfl (lv_at hl 2 rfl) ?_
    refine va_get (D := D) (cl := classes) (ci := 2) (v := .int v2) (C := "StepMapModel") (T := F_N) (N := 12) hx hb ht i_N hown hk.1 hP 0 rfl rfl 10 (by decide) (ht _ mw_1_192) (fun _ h9 => h9) rfl d_N_remove_104 ?_
    refine va_put (D := D) (cl := classes) (ci := 2) (v := .int v2) (ty := .int) (C := "StepMapModel") (T := F_N) (N := 12) hx hb ht i_N tt_N tt_N_ok n_N hown hk.1 hP hD hS 0 rfl rfl 11 (by decide) (ht _ mw_1_193) (fun _ h9 => h9) rfl (by decide +kernel) rfl rfl (Nat.le_of_ble_eq_true rfl) d_N_remove_107 (fun H locs hP hD hS => ?_)
    have hP : va_P D classes (wN h q cA 0 (nI hf) (nI c2) m2 q2 (nI Sx.2.2.2.2.2.1) v2 v2 S2 K2 V2 Z2) H := hP
    have hD : va_D A (wN h q cA 0 (nI hf) (nI c2) m2 q2 (nI Sx.2.2.2.2.2.1) v2 v2 S2 K2 V2 Z2) := hD
    refine lv_iload_n hx hb d_N_remove_110 rfl (lv_at hl 1 rfl) ?_
    refine lv_if_ge (tgt := 118) hx hb d_N_remove_111 (by decide) (fun _ => ?_) (fun c9 => absurd (nI_pos' (by omega)) c9)
    refine lv_iconst (v := 1) hx hb d_N_remove_118 (by decide) ?_
    refine lv_goto (tgt := 123) hx hb d_N_remove_119 (by decide) ?_
    have eS : (orem fc (tb c SS KK VV) oc (tb (1 - c) SS KK VV) cur cnt k) = _ := (by unfold orem; rw [if_pos h1] : (orem fc (tb c SS KK VV) oc (tb (1 - c) SS KK VV) cur cnt k) = _)
    have hM : MRu (orem fc (tb c SS KK VV) oc (tb (1 - c) SS KK VV) cur cnt k) (c2, m2, q2, v2, S2, K2, V2, Z2) := by rw [eS, eT]; exact hMx
    have hP : va_P D classes (wU h q cA 0 hf (orem fc (tb c SS KK VV) oc (tb (1 - c) SS KK VV) cur cnt k) (c2, m2, q2, v2, S2, K2, V2, Z2)) H := by rw [eS, eT, ← hvx]; exact hP
    have hD : va_D A (wU h q cA 0 hf (orem fc (tb c SS KK VV) oc (tb (1 - c) SS KK VV) cur cnt k) (c2, m2, q2, v2, S2, K2, V2, Z2)) := by rw [eS, eT, ← hvx]; exact hD
    exact hret _ _ _ _ _ _ (c2, m2, q2, v2, S2, K2, V2, Z2) d_N_remove_123 (Or.inr rfl) hP hD hS (⟨(by unfold oremA; rw [if_pos h1]), hM⟩) rfl
  · skip
    refine x_top (z := (-1 - nI (fsl fc (tb c SS KK VV) k))) (if_neg h1) ?_
    refine lv_istore_n (lv' := [(2, .int (-1 - nI (fsl fc (tb c SS KK VV) k))), (0, .ref h), (1, .int k)]) hx hb d_N_remove_19 rfl hl (by decide) rfl (fun ls hl => ?_)
    refine lv_iload_n hx hb d_N_remove_20 rfl (lv_at hl 0 rfl) ?_
    refine lv_if_ge (tgt := 45) hx hb d_N_remove_21 (by decide) (fun c9 => absurd c9 (fun z => by have := m1neg (n := (fsl fc (tb c SS KK VV) k)) (by omega); rw [Int32.lt_iff_toInt_lt] at this; rw [Int32.le_iff_toInt_le] at z; omega)) (fun _ => ?_)
    rcases id hmo with ⟨hmg, hm1, hm2, hm3⟩ | ⟨hmg, hm1⟩
    · skip
      have hoo := hlk hmg
      have hslo := (fsl_spec hoo.1 hoo.2.2).1
      have ho4 : (fsl oc (tb (1 - c) SS KK VV) k) < 1024 := by omega
      refine lv_aload_n hx hb d_N_remove_24 rfl (lv_at hl 1 rfl) ?_
      refine va_get (D := D) (cl := classes) (ci := 2) (v := .int mv) (C := "StepMapModel") (T := F_N) (N := 12) hx hb ht i_N hown hk.1 hP 0 rfl rfl 7 (by decide) (ht _ mw_1_189) (fun _ h9 => h9) rfl d_N_remove_25 ?_
      refine lv_if_eq (tgt := 45) hx hb d_N_remove_28 (by decide) (fun c9 => absurd c9 (fun z => by rw [hm1] at z; exact absurd z (by decide))) (fun _ => ?_)
      refine lv_aload_n hx hb d_N_remove_31 rfl (lv_at hl 1 rfl) ?_
      refine lv_iload_n hx hb d_N_remove_32 rfl (lv_at hl 2 rfl) ?_
      refine lv_iconst (v := 1) hx hb d_N_remove_33 (by decide) ?_
      refine lv_aload_n hx hb d_N_remove_34 rfl (lv_at hl 1 rfl) ?_
      refine va_get (D := D) (cl := classes) (ci := 2) (v := .int (nI c)) (C := "StepMapModel") (T := F_N) (N := 12) hx hb ht i_N hown hk.1 hP 0 rfl rfl 6 (by decide) (ht _ mw_1_188) (fun _ h9 => h9) rfl d_N_remove_35 ?_
      refine lv_isub hx hb d_N_remove_38 ?_
      refine x_top (z := (nI (1 - c))) (pk_sub (a := 1) (b := c) (by omega)) ?_
      refine xV_i (D := D) (k := 2) (ci := 2) (q := ("StepMapModel", F_N, 12)) (wr := []) (wb := fun u => (wN h q cA 0 (nI hf) (nI c) mv cq (nI cnt) ((0 + nI (fct fc (tb c SS KK VV) k)) + nI (fct oc (tb (1 - c) SS KK VV) k)) wk SS KK VV ZZ)) (rest := []) ⟨hx, hb, hml, hown, ht⟩ (c_N_look l D cA h q 0 (nI hf) (nI c) mv cq (nI cnt) (0 + nI (fct fc (tb c SS KK VV) k)) wk SS KK VV ZZ k (1 - c) oc hoo.1 (by omega) hm3 hoo.2.2) gv_N_49 (by decide +kernel) rfl ⟨Nat.le_of_ble_eq_true rfl, Nat.le_of_ble_eq_true rfl⟩ hk hP hD hS hA [0, 1, 2, 3, 4] [] [0, 1, 2, 3, 4] rfl rfl (fun _ => rfl) ⟨rfl, rfl, rfl⟩ (by decide) rfl rfl hl.1 rfl (Nat.le_of_ble_eq_true rfl) d_N_remove_39 ⟨Nat.zero_le _, Nat.zero_le _⟩ (fun r u H locs hp hP hD hS => ?_)
      have hp : r = (lookA oc (tb (1 - c) SS KK VV) k) := hp
      subst hp
      have hP : va_P D classes (wN h q cA 0 (nI hf) (nI c) mv cq (nI cnt) ((0 + nI (fct fc (tb c SS KK VV) k)) + nI (fct oc (tb (1 - c) SS KK VV) k)) wk SS KK VV ZZ) H := hP
      have hD : va_D A (wN h q cA 0 (nI hf) (nI c) mv cq (nI cnt) ((0 + nI (fct fc (tb c SS KK VV) k)) + nI (fct oc (tb (1 - c) SS KK VV) k)) wk SS KK VV ZZ) := hD
      have eV : ((0 + nI (fct fc (tb c SS KK VV) k)) + nI (fct oc (tb (1 - c) SS KK VV) k)) = nI (wkc fc (tb c SS KK VV) oc (tb (1 - c) SS KK VV) cur k) := by unfold wkc; rw [if_neg h1, if_pos hmg, i0a, nI_add]
      rw [eV] at hP hD
      by_cases h2 : sh (1 - c) SS (fsl oc (tb (1 - c) SS KK VV) k) = 1
      · skip
        refine x_top (z := (nI (fsl oc (tb (1 - c) SS KK VV) k))) (if_pos h2) ?_
        refine lv_goto (tgt := 46) hx hb d_N_remove_42 (by decide) ?_
        refine lv_istore_n (lv' := [(3, .int (nI (fsl oc (tb (1 - c) SS KK VV) k))), (2, .int (-1 - nI (fsl fc (tb c SS KK VV) k))), (0, .ref h), (1, .int k)]) hx hb d_N_remove_46 rfl hl (by decide) rfl (fun ls hl => ?_)
        refine lv_iload_n hx hb d_N_remove_47 rfl (lv_at hl 1 rfl) ?_
        refine lv_if_lt (tgt := 59) hx hb d_N_remove_48 (by decide) (fun _ => ?_) (fun c9 => absurd (m1neg (by omega)) c9)
        refine lv_iload_n hx hb d_N_remove_59 rfl (lv_at hl 0 rfl) ?_
        refine lv_if_lt (tgt := 80) hx hb d_N_remove_60 (by decide) (fun c9 => absurd c9 (nI_pos (by omega))) (fun _ => ?_)
        refine lv_aload_n hx hb d_N_remove_63 rfl (lv_at hl 2 rfl) ?_
        refine va_get (D := D) (cl := classes) (ci := 2) (v := .ref q.1) (C := "StepMapModel") (T := F_N) (N := 12) hx hb ht i_N hown hk.1 hP 0 rfl rfl 2 (by decide) (ht _ mw_1_184) (fun _ h9 => h9) rfl d_N_remove_64 ?_
        refine lv_aload_n hx hb d_N_remove_67 rfl (lv_at hl 2 rfl) ?_
        refine lv_iconst (v := 1) hx hb d_N_remove_68 (by decide) ?_
        refine lv_aload_n hx hb d_N_remove_69 rfl (lv_at hl 2 rfl) ?_
        refine va_get (D := D) (cl := classes) (ci := 2) (v := .int (nI c)) (C := "StepMapModel") (T := F_N) (N := 12) hx hb ht i_N hown hk.1 hP 0 rfl rfl 6 (by decide) (ht _ mw_1_188) (fun _ h9 => h9) rfl d_N_remove_70 ?_
        refine lv_isub hx hb d_N_remove_73 ?_
        refine x_top (z := (nI (1 - c))) (pk_sub (a := 1) (b := c) (by omega)) ?_
        refine lv_iload_n hx hb d_N_remove_74 rfl (lv_at hl 0 rfl) ?_
        refine xV_i (D := D) (k := 2) (ci := 2) (q := ("StepMapModel", F_N, 12)) (wr := []) (wb := fun u => (wN h q cA 0 (nI hf) (nI c) mv cq (nI cnt) (nI (wkc fc (tb c SS KK VV) oc (tb (1 - c) SS KK VV) cur k)) wk SS KK VV ZZ)) (rest := [.ref q.1]) ⟨hx, hb, hml, hown, ht⟩ (c_N_at l D cA h q 0 (nI hf) (nI c) mv cq (nI cnt) (nI (wkc fc (tb c SS KK VV) oc (tb (1 - c) SS KK VV) cur k)) wk SS KK VV ZZ (1 - c) (fsl oc (tb (1 - c) SS KK VV) k)) gv_N_37 (by decide +kernel) rfl ⟨Nat.le_of_ble_eq_true rfl, Nat.le_of_ble_eq_true rfl⟩ hk hP hD hS hA [0, 1, 2, 3, 4] [] [0, 1, 2, 3, 4] rfl rfl (fun _ => rfl) ⟨rfl, rfl, rfl⟩ (by decide) rfl rfl hl.1 rfl (Nat.le_of_ble_eq_true rfl) d_N_remove_75 ⟨Nat.zero_le _, Nat.zero_le _⟩ (fun r u H locs hp hP hD hS => ?_)
        have hp : r = (nI (1024 * (1 - c) + (fsl oc (tb (1 - c) SS KK VV) k))) := hp
        subst hp
        have hP : va_P D classes (wN h q cA 0 (nI hf) (nI c) mv cq (nI cnt) (nI (wkc fc (tb c SS KK VV) oc (tb (1 - c) SS KK VV) cur k)) wk SS KK VV ZZ) H := hP
        have hD : va_D A (wN h q cA 0 (nI hf) (nI c) mv cq (nI cnt) (nI (wkc fc (tb c SS KK VV) oc (tb (1 - c) SS KK VV) cur k)) wk SS KK VV ZZ) := hD
        refine lv_iconst (v := 2) hx hb d_N_remove_78 (by decide) ?_
        refine x_ast hx hb hk hP hD hS 1 0 rfl rfl (i := (1024 * (1 - c) + (fsl oc (tb (1 - c) SS KK VV) k))) (x := 2) (by omega) (by omega) d_N_remove_79 (fun H locs hP hD hS => ?_)
        have hP : va_P D classes (wN h q cA 0 (nI hf) (nI c) mv cq (nI cnt) (nI (wkc fc (tb c SS KK VV) oc (tb (1 - c) SS KK VV) cur k)) wk (upd SS (1024 * (1 - c) + (fsl oc (tb (1 - c) SS KK VV) k)) 2) KK VV ZZ) H := hP
        have hD : va_D A (wN h q cA 0 (nI hf) (nI c) mv cq (nI cnt) (nI (wkc fc (tb c SS KK VV) oc (tb (1 - c) SS KK VV) cur k)) wk (upd SS (1024 * (1 - c) + (fsl oc (tb (1 - c) SS KK VV) k)) 2) KK VV ZZ) := hD
        refine lv_iload_n hx hb d_N_remove_80 rfl (lv_at hl 1 rfl) ?_
        refine lv_if_ge (tgt := 88) hx hb d_N_remove_81 (by decide) (fun c9 => absurd c9 (fun z => by have := m1neg (n := (fsl fc (tb c SS KK VV) k)) (by omega); rw [Int32.lt_iff_toInt_lt] at this; rw [Int32.le_iff_toInt_le] at z; omega)) (fun _ => ?_)
        refine lv_iload_n hx hb d_N_remove_84 rfl (lv_at hl 0 rfl) ?_
        refine lv_if_lt (tgt := 102) hx hb d_N_remove_85 (by decide) (fun c9 => absurd c9 (nI_pos (by omega))) (fun _ => ?_)
        have hcp : 1 ≤ cnt := by
          have z1 := hc_pos hslo h2
          have z3 : cnt = hc (sh c SS) fc + hc (sh (1 - c) SS) oc := (hiv.old hmg).2.2.2.2.2.2.2.2.2.2; omega
        refine lv_aload_n hx hb d_N_remove_88 rfl (lv_at hl 2 rfl) ?_
        refine lv_dup hx hb d_N_remove_89 rfl ?_
        refine va_get (D := D) (cl := classes) (ci := 2) (v := .int (nI cnt)) (C := "StepMapModel") (T := F_N) (N := 12) hx hb ht i_N hown hk.1 hP 0 rfl rfl 9 (by decide) (ht _ mw_1_191) (fun _ h9 => h9) rfl d_N_remove_90 ?_
        refine lv_iconst (v := 1) hx hb d_N_remove_93 (by decide) ?_
        refine lv_isub hx hb d_N_remove_94 ?_
        refine x_top (z := (nI (cnt - 1))) (pk_sub hcp) ?_
        refine va_put (D := D) (cl := classes) (ci := 2) (v := .int (nI (cnt - 1))) (ty := .int) (C := "StepMapModel") (T := F_N) (N := 12) hx hb ht i_N tt_N tt_N_ok n_N hown hk.1 hP hD hS 0 rfl rfl 9 (by decide) (ht _ mw_1_191) (fun _ h9 => h9) rfl (by decide +kernel) rfl rfl (Nat.le_of_ble_eq_true rfl) d_N_remove_95 (fun H locs hP hD hS => ?_)
        have hP : va_P D classes (wN h q cA 0 (nI hf) (nI c) mv cq (nI (cnt - 1)) (nI (wkc fc (tb c SS KK VV) oc (tb (1 - c) SS KK VV) cur k)) wk (upd SS (1024 * (1 - c) + (fsl oc (tb (1 - c) SS KK VV) k)) 2) KK VV ZZ) H := hP
        have hD : va_D A (wN h q cA 0 (nI hf) (nI c) mv cq (nI (cnt - 1)) (nI (wkc fc (tb c SS KK VV) oc (tb (1 - c) SS KK VV) cur k)) wk (upd SS (1024 * (1 - c) + (fsl oc (tb (1 - c) SS KK VV) k)) 2) KK VV ZZ) := hD
        refine lv_aload_n hx hb d_N_remove_98 rfl (lv_at hl 2 rfl) ?_
        have t1 : tb c (upd SS (1024 * (1 - c) + (fsl oc (tb (1 - c) SS KK VV) k)) 2) KK VV = (tb c SS KK VV) := by
          show (sh c KK, sh c VV, sh c (upd SS (1024 * (1 - c) + (fsl oc (tb (1 - c) SS KK VV) k)) 2)) = _
          rw [sh_upd_o _ _ ho4 hcc2]
        have t2 : tb (1 - c) (upd SS (1024 * (1 - c) + (fsl oc (tb (1 - c) SS KK VV) k)) 2) KK VV = pT (tb (1 - c) SS KK VV) (fsl oc (tb (1 - c) SS KK VV) k) := by
          show (sh (1 - c) KK, sh (1 - c) VV, sh (1 - c) (upd SS (1024 * (1 - c) + (fsl oc (tb (1 - c) SS KK VV) k)) 2)) = _
          rw [sh_upd _ _ ho4]; rfl
        refine xV_v (D := D) (k := 0) (ci := 2) (q := ("StepMapModel", F_N, 12)) (wr := []) (wb := fun u => (wU h q cA 0 hf (stl fc (tb c (upd SS (1024 * (1 - c) + (fsl oc (tb (1 - c) SS KK VV) k)) 2) KK VV) oc (tb (1 - c) (upd SS (1024 * (1 - c) + (fsl oc (tb (1 - c) SS KK VV) k)) 2) KK VV) cur (cnt - 1) wk) u)) (rest := []) ⟨hx, hb, hml, hown, ht⟩ (c_N_settle l D cA h q 0 hf c mv cq (cnt - 1) (nI (wkc fc (tb c SS KK VV) oc (tb (1 - c) SS KK VV) cur k)) wk (upd SS (1024 * (1 - c) + (fsl oc (tb (1 - c) SS KK VV) k)) 2) KK VV ZZ fc oc cur (wkc fc (tb c SS KK VV) oc (tb (1 - c) SS KK VV) cur k) ⟨hc2, rfl, rfl, hz, hmo⟩ (by rw [t1, t2]; exact remO_SI hiv hmg hslo h2) (rfl)) gv_N_75 (by decide +kernel) rfl ⟨Nat.le_of_ble_eq_true rfl, Nat.le_of_ble_eq_true rfl⟩ hk hP hD hS hA [0, 1, 2, 3, 4] [] [0, 1, 2, 3, 4] rfl rfl (fun _ => rfl) ⟨rfl, rfl, rfl⟩ (by decide) rfl rfl hl.1 rfl (Nat.le_of_ble_eq_true rfl) d_N_remove_99 ⟨Nat.zero_le _, Nat.zero_le _⟩ (fun u H locs hp hP hD hS => ?_)
        have hP : va_P D classes (wU h q cA 0 hf (stl fc (tb c (upd SS (1024 * (1 - c) + (fsl oc (tb (1 - c) SS KK VV) k)) 2) KK VV) oc (tb (1 - c) (upd SS (1024 * (1 - c) + (fsl oc (tb (1 - c) SS KK VV) k)) 2) KK VV) cur (cnt - 1) wk) u) H := hP
        have hD : va_D A (wU h q cA 0 hf (stl fc (tb c (upd SS (1024 * (1 - c) + (fsl oc (tb (1 - c) SS KK VV) k)) 2) KK VV) oc (tb (1 - c) (upd SS (1024 * (1 - c) + (fsl oc (tb (1 - c) SS KK VV) k)) 2) KK VV) cur (cnt - 1) wk) u) := hD
        rw [t1, t2] at hP hD hp
        have eT := stl_wk fc (tb c SS KK VV) oc (pT (tb (1 - c) SS KK VV) (fsl oc (tb (1 - c) SS KK VV) k)) cur (cnt - 1) wk (nI (stw fc (tb c SS KK VV) oc (pT (tb (1 - c) SS KK VV) (fsl oc (tb (1 - c) SS KK VV) k)) cur (wkc fc (tb c SS KK VV) oc (tb (1 - c) SS KK VV) cur k)))
        obtain ⟨Sx, eSx⟩ : ∃ z, z = (stl fc (tb c SS KK VV) oc (pT (tb (1 - c) SS KK VV) (fsl oc (tb (1 - c) SS KK VV) k)) cur (cnt - 1) wk) := ⟨_, rfl⟩
        rw [← eSx] at hP hD hp eT
        obtain ⟨c2, m2, q2, v2, S2, K2, V2, Z2⟩ := u
        obtain ⟨hMx, hvx⟩ : MRu Sx (c2, m2, q2, v2, S2, K2, V2, Z2) ∧ v2 = nI (stw fc (tb c SS KK VV) oc (pT (tb (1 - c) SS KK VV) (fsl oc (tb (1 - c) SS KK VV) k)) cur (wkc fc (tb c SS KK VV) oc (tb (1 - c) SS KK VV) cur k)) := hp
        have hP : va_P D classes (wN h q cA 0 (nI hf) (nI c2) m2 q2 (nI Sx.2.2.2.2.2.1) v2 Sx.2.2.2.2.2.2 S2 K2 V2 Z2) H := hP
        have hD : va_D A (wN h q cA 0 (nI hf) (nI c2) m2 q2 (nI Sx.2.2.2.2.2.1) v2 Sx.2.2.2.2.2.2 S2 K2 V2 Z2) := hD
        refine lv_aload_n hx hb d_N_remove_102 rfl (lv_at hl 2 rfl) ?_
        refine lv_aload_n hx hb d_N_remove_103 rfl (lv_at hl 2 rfl) ?_
        refine va_get (D := D) (cl := classes) (ci := 2) (v := .int v2) (C := "StepMapModel") (T := F_N) (N := 12) hx hb ht i_N hown hk.1 hP 0 rfl rfl 10 (by decide) (ht _ mw_1_192) (fun _ h9 => h9) rfl d_N_remove_104 ?_
        refine va_put (D := D) (cl := classes) (ci := 2) (v := .int v2) (ty := .int) (C := "StepMapModel") (T := F_N) (N := 12) hx hb ht i_N tt_N tt_N_ok n_N hown hk.1 hP hD hS 0 rfl rfl 11 (by decide) (ht _ mw_1_193) (fun _ h9 => h9) rfl (by decide +kernel) rfl rfl (Nat.le_of_ble_eq_true rfl) d_N_remove_107 (fun H locs hP hD hS => ?_)
        have hP : va_P D classes (wN h q cA 0 (nI hf) (nI c2) m2 q2 (nI Sx.2.2.2.2.2.1) v2 v2 S2 K2 V2 Z2) H := hP
        have hD : va_D A (wN h q cA 0 (nI hf) (nI c2) m2 q2 (nI Sx.2.2.2.2.2.1) v2 v2 S2 K2 V2 Z2) := hD
        refine lv_iload_n hx hb d_N_remove_110 rfl (lv_at hl 1 rfl) ?_
        refine lv_if_ge (tgt := 118) hx hb d_N_remove_111 (by decide) (fun c9 => absurd c9 (fun z => by have := m1neg (n := (fsl fc (tb c SS KK VV) k)) (by omega); rw [Int32.lt_iff_toInt_lt] at this; rw [Int32.le_iff_toInt_le] at z; omega)) (fun _ => ?_)
        refine lv_iload_n hx hb d_N_remove_114 rfl (lv_at hl 0 rfl) ?_
        refine lv_if_lt (tgt := 122) hx hb d_N_remove_115 (by decide) (fun c9 => absurd c9 (nI_pos (by omega))) (fun _ => ?_)
        refine lv_iconst (v := 1) hx hb d_N_remove_118 (by decide) ?_
        refine lv_goto (tgt := 123) hx hb d_N_remove_119 (by decide) ?_
        have eS : (orem fc (tb c SS KK VV) oc (tb (1 - c) SS KK VV) cur cnt k) = _ := (by unfold orem; rw [if_neg h1, if_pos ⟨hmg, h2⟩] : (orem fc (tb c SS KK VV) oc (tb (1 - c) SS KK VV) cur cnt k) = _)
        have hM : MRu (orem fc (tb c SS KK VV) oc (tb (1 - c) SS KK VV) cur cnt k) (c2, m2, q2, v2, S2, K2, V2, Z2) := by rw [eS, eT]; exact hMx
        have hP : va_P D classes (wU h q cA 0 hf (orem fc (tb c SS KK VV) oc (tb (1 - c) SS KK VV) cur cnt k) (c2, m2, q2, v2, S2, K2, V2, Z2)) H := by rw [eS, eT, ← hvx]; exact hP
        have hD : va_D A (wU h q cA 0 hf (orem fc (tb c SS KK VV) oc (tb (1 - c) SS KK VV) cur cnt k) (c2, m2, q2, v2, S2, K2, V2, Z2)) := by rw [eS, eT, ← hvx]; exact hD
        exact hret _ _ _ _ _ _ (c2, m2, q2, v2, S2, K2, V2, Z2) d_N_remove_123 (Or.inr rfl) hP hD hS (⟨(by unfold oremA; rw [if_neg h1, if_pos ⟨hmg, h2⟩]), hM⟩) rfl
      · skip
        refine x_top (z := (-1 - nI (fsl oc (tb (1 - c) SS KK VV) k))) (if_neg h2) ?_
        refine lv_goto (tgt := 46) hx hb d_N_remove_42 (by decide) ?_
        refine lv_istore_n (lv' := [(3, .int (-1 - nI (fsl oc (tb (1 - c) SS KK VV) k))), (2, .int (-1 - nI (fsl fc (tb c SS KK VV) k))), (0, .ref h), (1, .int k)]) hx hb d_N_remove_46 rfl hl (by decide) rfl (fun ls hl => ?_)
        refine lv_iload_n hx hb d_N_remove_47 rfl (lv_at hl 1 rfl) ?_
        refine lv_if_lt (tgt := 59) hx hb d_N_remove_48 (by decide) (fun _ => ?_) (fun c9 => absurd (m1neg (by omega)) c9)
        refine lv_iload_n hx hb d_N_remove_59 rfl (lv_at hl 0 rfl) ?_
        refine lv_if_lt (tgt := 80) hx hb d_N_remove_60 (by decide) (fun _ => ?_) (fun c9 => absurd (m1neg (by omega)) c9)
        refine lv_iload_n hx hb d_N_remove_80 rfl (lv_at hl 1 rfl) ?_
        refine lv_if_ge (tgt := 88) hx hb d_N_remove_81 (by decide) (fun c9 => absurd c9 (fun z => by have := m1neg (n := (fsl fc (tb c SS KK VV) k)) (by omega); rw [Int32.lt_iff_toInt_lt] at this; rw [Int32.le_iff_toInt_le] at z; omega)) (fun _ => ?_)
        refine lv_iload_n hx hb d_N_remove_84 rfl (lv_at hl 0 rfl) ?_
        refine lv_if_lt (tgt := 102) hx hb d_N_remove_85 (by decide) (fun _ => ?_) (fun c9 => absurd (m1neg (by omega)) c9)
        refine lv_aload_n hx hb d_N_remove_102 rfl (lv_at hl 2 rfl) ?_
        refine lv_aload_n hx hb d_N_remove_103 rfl (lv_at hl 2 rfl) ?_
        refine va_get (D := D) (cl := classes) (ci := 2) (v := .int (nI (wkc fc (tb c SS KK VV) oc (tb (1 - c) SS KK VV) cur k))) (C := "StepMapModel") (T := F_N) (N := 12) hx hb ht i_N hown hk.1 hP 0 rfl rfl 10 (by decide) (ht _ mw_1_192) (fun _ h9 => h9) rfl d_N_remove_104 ?_
        refine va_put (D := D) (cl := classes) (ci := 2) (v := .int (nI (wkc fc (tb c SS KK VV) oc (tb (1 - c) SS KK VV) cur k))) (ty := .int) (C := "StepMapModel") (T := F_N) (N := 12) hx hb ht i_N tt_N tt_N_ok n_N hown hk.1 hP hD hS 0 rfl rfl 11 (by decide) (ht _ mw_1_193) (fun _ h9 => h9) rfl (by decide +kernel) rfl rfl (Nat.le_of_ble_eq_true rfl) d_N_remove_107 (fun H locs hP hD hS => ?_)
        have hP : va_P D classes (wN h q cA 0 (nI hf) (nI c) mv cq (nI cnt) (nI (wkc fc (tb c SS KK VV) oc (tb (1 - c) SS KK VV) cur k)) (nI (wkc fc (tb c SS KK VV) oc (tb (1 - c) SS KK VV) cur k)) SS KK VV ZZ) H := hP
        have hD : va_D A (wN h q cA 0 (nI hf) (nI c) mv cq (nI cnt) (nI (wkc fc (tb c SS KK VV) oc (tb (1 - c) SS KK VV) cur k)) (nI (wkc fc (tb c SS KK VV) oc (tb (1 - c) SS KK VV) cur k)) SS KK VV ZZ) := hD
        refine lv_iload_n hx hb d_N_remove_110 rfl (lv_at hl 1 rfl) ?_
        refine lv_if_ge (tgt := 118) hx hb d_N_remove_111 (by decide) (fun c9 => absurd c9 (fun z => by have := m1neg (n := (fsl fc (tb c SS KK VV) k)) (by omega); rw [Int32.lt_iff_toInt_lt] at this; rw [Int32.le_iff_toInt_le] at z; omega)) (fun _ => ?_)
        refine lv_iload_n hx hb d_N_remove_114 rfl (lv_at hl 0 rfl) ?_
        refine lv_if_lt (tgt := 122) hx hb d_N_remove_115 (by decide) (fun _ => ?_) (fun c9 => absurd (m1neg (by omega)) c9)
        refine lv_iconst (v := 0) hx hb d_N_remove_122 (by decide) ?_
        have eS : (orem fc (tb c SS KK VV) oc (tb (1 - c) SS KK VV) cur cnt k) = (fc, (tb c SS KK VV), oc, (tb (1 - c) SS KK VV), cur, cnt, nI (wkc fc (tb c SS KK VV) oc (tb (1 - c) SS KK VV) cur k)) := by unfold orem; rw [if_neg h1, if_neg (fun z => h2 z.2)]
        have hM : MRu (orem fc (tb c SS KK VV) oc (tb (1 - c) SS KK VV) cur cnt k) (c, mv, cq, nI (wkc fc (tb c SS KK VV) oc (tb (1 - c) SS KK VV) cur k), SS, KK, VV, ZZ) := by rw [eS]; exact hmr
        have hP : va_P D classes (wU h q cA 0 hf (orem fc (tb c SS KK VV) oc (tb (1 - c) SS KK VV) cur cnt k) (c, mv, cq, nI (wkc fc (tb c SS KK VV) oc (tb (1 - c) SS KK VV) cur k), SS, KK, VV, ZZ)) H := by rw [eS]; exact hP
        have hD : va_D A (wU h q cA 0 hf (orem fc (tb c SS KK VV) oc (tb (1 - c) SS KK VV) cur cnt k) (c, mv, cq, nI (wkc fc (tb c SS KK VV) oc (tb (1 - c) SS KK VV) cur k), SS, KK, VV, ZZ)) := by rw [eS]; exact hD
        exact hret _ _ _ _ _ _ (c, mv, cq, nI (wkc fc (tb c SS KK VV) oc (tb (1 - c) SS KK VV) cur k), SS, KK, VV, ZZ) d_N_remove_123 (Or.inl rfl) hP hD hS (⟨(by unfold oremA; rw [if_neg h1, if_neg (fun z => h2 z.2)]), hM⟩) rfl
    · skip
      have eV : (0 + nI (fct fc (tb c SS KK VV) k)) = nI (wkc fc (tb c SS KK VV) oc (tb (1 - c) SS KK VV) cur k) := by unfold wkc; rw [if_neg h1, if_neg hmg, i0a]; rfl
      rw [eV] at hP hD
      refine lv_aload_n hx hb d_N_remove_24 rfl (lv_at hl 1 rfl) ?_
      refine va_get (D := D) (cl := classes) (ci := 2) (v := .int mv) (C := "StepMapModel") (T := F_N) (N := 12) hx hb ht i_N hown hk.1 hP 0 rfl rfl 7 (by decide) (ht _ mw_1_189) (fun _ h9 => h9) rfl d_N_remove_25 ?_
      refine lv_if_eq (tgt := 45) hx hb d_N_remove_28 (by decide) (fun _ => ?_) (fun c9 => absurd (hm1) c9)
      refine lv_iconst (v := (-1)) hx hb d_N_remove_45 (by decide) ?_
      refine lv_istore_n (lv' := [(3, .int (-1)), (2, .int (-1 - nI (fsl fc (tb c SS KK VV) k))), (0, .ref h), (1, .int k)]) hx hb d_N_remove_46 rfl hl (by decide) rfl (fun ls hl => ?_)
      refine lv_iload_n hx hb d_N_remove_47 rfl (lv_at hl 1 rfl) ?_
      refine lv_if_lt (tgt := 59) hx hb d_N_remove_48 (by decide) (fun _ => ?_) (fun c9 => absurd (m1neg (by omega)) c9)
      refine lv_iload_n hx hb d_N_remove_59 rfl (lv_at hl 0 rfl) ?_
      refine lv_if_lt (tgt := 80) hx hb d_N_remove_60 (by decide) (fun _ => ?_) (fun c9 => absurd (by decide) c9)
      refine lv_iload_n hx hb d_N_remove_80 rfl (lv_at hl 1 rfl) ?_
      refine lv_if_ge (tgt := 88) hx hb d_N_remove_81 (by decide) (fun c9 => absurd c9 (fun z => by have := m1neg (n := (fsl fc (tb c SS KK VV) k)) (by omega); rw [Int32.lt_iff_toInt_lt] at this; rw [Int32.le_iff_toInt_le] at z; omega)) (fun _ => ?_)
      refine lv_iload_n hx hb d_N_remove_84 rfl (lv_at hl 0 rfl) ?_
      refine lv_if_lt (tgt := 102) hx hb d_N_remove_85 (by decide) (fun _ => ?_) (fun c9 => absurd (by decide) c9)
      refine lv_aload_n hx hb d_N_remove_102 rfl (lv_at hl 2 rfl) ?_
      refine lv_aload_n hx hb d_N_remove_103 rfl (lv_at hl 2 rfl) ?_
      refine va_get (D := D) (cl := classes) (ci := 2) (v := .int (nI (wkc fc (tb c SS KK VV) oc (tb (1 - c) SS KK VV) cur k))) (C := "StepMapModel") (T := F_N) (N := 12) hx hb ht i_N hown hk.1 hP 0 rfl rfl 10 (by decide) (ht _ mw_1_192) (fun _ h9 => h9) rfl d_N_remove_104 ?_
      refine va_put (D := D) (cl := classes) (ci := 2) (v := .int (nI (wkc fc (tb c SS KK VV) oc (tb (1 - c) SS KK VV) cur k))) (ty := .int) (C := "StepMapModel") (T := F_N) (N := 12) hx hb ht i_N tt_N tt_N_ok n_N hown hk.1 hP hD hS 0 rfl rfl 11 (by decide) (ht _ mw_1_193) (fun _ h9 => h9) rfl (by decide +kernel) rfl rfl (Nat.le_of_ble_eq_true rfl) d_N_remove_107 (fun H locs hP hD hS => ?_)
      have hP : va_P D classes (wN h q cA 0 (nI hf) (nI c) mv cq (nI cnt) (nI (wkc fc (tb c SS KK VV) oc (tb (1 - c) SS KK VV) cur k)) (nI (wkc fc (tb c SS KK VV) oc (tb (1 - c) SS KK VV) cur k)) SS KK VV ZZ) H := hP
      have hD : va_D A (wN h q cA 0 (nI hf) (nI c) mv cq (nI cnt) (nI (wkc fc (tb c SS KK VV) oc (tb (1 - c) SS KK VV) cur k)) (nI (wkc fc (tb c SS KK VV) oc (tb (1 - c) SS KK VV) cur k)) SS KK VV ZZ) := hD
      refine lv_iload_n hx hb d_N_remove_110 rfl (lv_at hl 1 rfl) ?_
      refine lv_if_ge (tgt := 118) hx hb d_N_remove_111 (by decide) (fun c9 => absurd c9 (fun z => by have := m1neg (n := (fsl fc (tb c SS KK VV) k)) (by omega); rw [Int32.lt_iff_toInt_lt] at this; rw [Int32.le_iff_toInt_le] at z; omega)) (fun _ => ?_)
      refine lv_iload_n hx hb d_N_remove_114 rfl (lv_at hl 0 rfl) ?_
      refine lv_if_lt (tgt := 122) hx hb d_N_remove_115 (by decide) (fun _ => ?_) (fun c9 => absurd (by decide) c9)
      refine lv_iconst (v := 0) hx hb d_N_remove_122 (by decide) ?_
      have eS : (orem fc (tb c SS KK VV) oc (tb (1 - c) SS KK VV) cur cnt k) = (fc, (tb c SS KK VV), oc, (tb (1 - c) SS KK VV), cur, cnt, nI (wkc fc (tb c SS KK VV) oc (tb (1 - c) SS KK VV) cur k)) := by unfold orem; rw [if_neg h1, if_neg (fun z => hmg z.1)]
      have hM : MRu (orem fc (tb c SS KK VV) oc (tb (1 - c) SS KK VV) cur cnt k) (c, mv, cq, nI (wkc fc (tb c SS KK VV) oc (tb (1 - c) SS KK VV) cur k), SS, KK, VV, ZZ) := by rw [eS]; exact hmr
      have hP : va_P D classes (wU h q cA 0 hf (orem fc (tb c SS KK VV) oc (tb (1 - c) SS KK VV) cur cnt k) (c, mv, cq, nI (wkc fc (tb c SS KK VV) oc (tb (1 - c) SS KK VV) cur k), SS, KK, VV, ZZ)) H := by rw [eS]; exact hP
      have hD : va_D A (wU h q cA 0 hf (orem fc (tb c SS KK VV) oc (tb (1 - c) SS KK VV) cur cnt k) (c, mv, cq, nI (wkc fc (tb c SS KK VV) oc (tb (1 - c) SS KK VV) cur k), SS, KK, VV, ZZ)) := by rw [eS]; exact hD
      exact hret _ _ _ _ _ _ (c, mv, cq, nI (wkc fc (tb c SS KK VV) oc (tb (1 - c) SS KK VV) cur k), SS, KK, VV, ZZ) d_N_remove_123 (Or.inl rfl) hP hD hS (⟨(by unfold oremA; rw [if_neg h1, if_neg (fun z => hmg z.1)]), hM⟩) rfl
end
section
theorem clr_z0 (n : Nat) : clr z0 n = z0 := by funext j; unfold clr; split <;> rfl
theorem MR_start : MRu (8, (z0, z0, clr z0 8), 0, (z0, z0, z0), 0, 0, 0) (0, 0, 0, 0, z0, z0, z0, upd z0 0 8) := by
  refine ⟨by show (0 : Nat) < 2; omega, ?_, ?_, by show upd z0 0 8 0 = nI 8; rw [upd_at]; rfl, Or.inr ⟨Nat.lt_irrefl 0, rfl⟩⟩
  · show (z0, z0, clr z0 8) = (sh 0 z0, sh 0 z0, sh 0 z0)
    rw [clr_z0, sh_0]
  · show (z0, z0, z0) = (sh 1 z0, sh 1 z0, sh 1 z0)
    rw [sh_0]
set_option maxHeartbeats 4000000 in
set_option maxRecDepth 100000 in
theorem c_N_init (l : Launch) (D : va_G) (cA : ClassId) (h : Nat) (x : Int32) : Mv l D [(cA, .int)] y_N_init b_N_init 3 1 20 4 6146 [.ref h, .int x] [(h, .inr (2, [.int 0, .int 0, .null, .null, .null, .null, .int 0, .int 0, .int 0, .int 0, .int 0, .int 0]))] (fun (_ : Ad) => True) (fun u => wU h u cA 0 (hv x) (8, (z0, z0, clr z0 8), 0, (z0, z0, z0), 0, 0, 0) (0, 0, 0, 0, z0, z0, z0, upd z0 0 8)) := by
  refine mv_start (own := "StepMapModel") (by decide +kernel) rfl (Nat.le_of_ble_eq_true rfl) ?_
  intro p e s m args below meth cd ls A Q hx hb hml hin hown ht hk hP hD hA hl hret
  have hS : va_S A s.heap s.heap [] := va_S.rf
  have hl : lv_has ls 3 [(0, .ref h), (1, .int x)] := hl
  refine lv_aload_n hx hb d_N_init_0 rfl (lv_at hl 0 rfl) ?_
  refine W.objInit hx hb hown (ht _ mw_1_181) (ht _ mw_1_11) (ht _ mw_1_12) rfl (by rw [hml]; exact hl.1) rfl d_N_init_1 (Nat.le_of_ble_eq_true rfl) (Nat.le_of_ble_eq_true rfl) ?_
  refine W.eq (g2 := F0 m 4 ls []) rfl ?_
  refine lv_aload_n hx hb d_N_init_4 rfl (lv_at hl 0 rfl) ?_
  refine lv_sipush (v := 2048) hx hb d_N_init_5 (by decide) ?_
  refine x_top (z := (nI 2048)) (rfl) ?_
  refine va_newa (D := D) (cl := classes) (atype := .int) (ty := .int) (n := (nI 2048)) (N' := 2048) (a0 := (2048, .inl (fun _ => 0))) hx hb (ht _ mw_1_43) rfl hk.1 hP hD hS hA (fun _ => rfl) (nI_pos (by decide)) (nI_clamp (by decide)) (Nat.le_of_ble_eq_true rfl) (Nat.le_of_ble_eq_true rfl) (Nat.le_of_ble_eq_true rfl) d_N_init_8 (fun q1 cB H hK hP hD hS => ?_)
  have eA : cA = cB := Option.some.inj ((hk.1.2 0 _ rfl).2.symm.trans (hK.2 1 _ rfl).2)
  subst eA
  have hP : va_P D classes [(h, .inr (2, [.int 0, .int 0, .null, .null, .null, .null, .int 0, .int 0, .int 0, .int 0, .int 0, .int 0])), (q1, .inl (cA, 2048, .inl (fun _ => 0)))] H := hP
  have hD : va_D A [(h, .inr (2, [.int 0, .int 0, .null, .null, .null, .null, .int 0, .int 0, .int 0, .int 0, .int 0, .int 0])), (q1, .inl (cA, 2048, .inl (fun _ => 0)))] := hD
  refine W.widen (k := 1) (n := 2048) (by omega) (by omega) ?_
  refine va_putF (D := D) (cl := classes) (ci := 2) (v := .ref q1) (ty := .array .int) (C := "StepMapModel") (T := F_N) (N := 12) hx hb ht i_N tt_N tt_N_ok n_N hown hk.1 hP hD hS 0 rfl rfl 2 (by decide) (ht _ mw_1_184) (fun _ h9 => h9) rfl hin rfl (by decide +kernel) rfl rfl (Nat.le_of_ble_eq_true rfl) d_N_init_10 (fun H locs hP hD hS => ?_)
  have hP : va_P D classes [(h, .inr (2, [.int 0, .int 0, .ref q1, .null, .null, .null, .int 0, .int 0, .int 0, .int 0, .int 0, .int 0])), (q1, .inl (cA, 2048, .inl (fun _ => 0)))] H := hP
  have hD : va_D A [(h, .inr (2, [.int 0, .int 0, .ref q1, .null, .null, .null, .int 0, .int 0, .int 0, .int 0, .int 0, .int 0])), (q1, .inl (cA, 2048, .inl (fun _ => 0)))] := hD
  refine lv_aload_n hx hb d_N_init_13 rfl (lv_at hl 0 rfl) ?_
  refine lv_sipush (v := 2048) hx hb d_N_init_14 (by decide) ?_
  refine x_top (z := (nI 2048)) (rfl) ?_
  refine va_newa (D := D) (cl := classes) (atype := .int) (ty := .int) (n := (nI 2048)) (N' := 2048) (a0 := (2048, .inl (fun _ => 0))) hx hb (ht _ mw_1_43) rfl hk.1 hP hD hS hA (fun _ => rfl) (nI_pos (by decide)) (nI_clamp (by decide)) (Nat.le_of_ble_eq_true rfl) (Nat.le_of_ble_eq_true rfl) (Nat.le_of_ble_eq_true rfl) d_N_init_17 (fun q2 cB H hK hP hD hS => ?_)
  have eA : cA = cB := Option.some.inj ((hk.1.2 0 _ rfl).2.symm.trans (hK.2 1 _ rfl).2)
  subst eA
  have hP : va_P D classes [(h, .inr (2, [.int 0, .int 0, .ref q1, .null, .null, .null, .int 0, .int 0, .int 0, .int 0, .int 0, .int 0])), (q1, .inl (cA, 2048, .inl (fun _ => 0))), (q2, .inl (cA, 2048, .inl (fun _ => 0)))] H := hP
  have hD : va_D A [(h, .inr (2, [.int 0, .int 0, .ref q1, .null, .null, .null, .int 0, .int 0, .int 0, .int 0, .int 0, .int 0])), (q1, .inl (cA, 2048, .inl (fun _ => 0))), (q2, .inl (cA, 2048, .inl (fun _ => 0)))] := hD
  refine W.widen (k := 2) (n := 4096) (by omega) (by omega) ?_
  refine va_putF (D := D) (cl := classes) (ci := 2) (v := .ref q2) (ty := .array .int) (C := "StepMapModel") (T := F_N) (N := 12) hx hb ht i_N tt_N tt_N_ok n_N hown hk.1 hP hD hS 0 rfl rfl 3 (by decide) (ht _ mw_1_185) (fun _ h9 => h9) rfl hin rfl (by decide +kernel) rfl rfl (Nat.le_of_ble_eq_true rfl) d_N_init_19 (fun H locs hP hD hS => ?_)
  have hP : va_P D classes [(h, .inr (2, [.int 0, .int 0, .ref q1, .ref q2, .null, .null, .int 0, .int 0, .int 0, .int 0, .int 0, .int 0])), (q1, .inl (cA, 2048, .inl (fun _ => 0))), (q2, .inl (cA, 2048, .inl (fun _ => 0)))] H := hP
  have hD : va_D A [(h, .inr (2, [.int 0, .int 0, .ref q1, .ref q2, .null, .null, .int 0, .int 0, .int 0, .int 0, .int 0, .int 0])), (q1, .inl (cA, 2048, .inl (fun _ => 0))), (q2, .inl (cA, 2048, .inl (fun _ => 0)))] := hD
  refine lv_aload_n hx hb d_N_init_22 rfl (lv_at hl 0 rfl) ?_
  refine lv_sipush (v := 2048) hx hb d_N_init_23 (by decide) ?_
  refine x_top (z := (nI 2048)) (rfl) ?_
  refine va_newa (D := D) (cl := classes) (atype := .int) (ty := .int) (n := (nI 2048)) (N' := 2048) (a0 := (2048, .inl (fun _ => 0))) hx hb (ht _ mw_1_43) rfl hk.1 hP hD hS hA (fun _ => rfl) (nI_pos (by decide)) (nI_clamp (by decide)) (Nat.le_of_ble_eq_true rfl) (Nat.le_of_ble_eq_true rfl) (Nat.le_of_ble_eq_true rfl) d_N_init_26 (fun q3 cB H hK hP hD hS => ?_)
  have eA : cA = cB := Option.some.inj ((hk.1.2 0 _ rfl).2.symm.trans (hK.2 1 _ rfl).2)
  subst eA
  have hP : va_P D classes [(h, .inr (2, [.int 0, .int 0, .ref q1, .ref q2, .null, .null, .int 0, .int 0, .int 0, .int 0, .int 0, .int 0])), (q1, .inl (cA, 2048, .inl (fun _ => 0))), (q2, .inl (cA, 2048, .inl (fun _ => 0))), (q3, .inl (cA, 2048, .inl (fun _ => 0)))] H := hP
  have hD : va_D A [(h, .inr (2, [.int 0, .int 0, .ref q1, .ref q2, .null, .null, .int 0, .int 0, .int 0, .int 0, .int 0, .int 0])), (q1, .inl (cA, 2048, .inl (fun _ => 0))), (q2, .inl (cA, 2048, .inl (fun _ => 0))), (q3, .inl (cA, 2048, .inl (fun _ => 0)))] := hD
  refine W.widen (k := 3) (n := 6144) (by omega) (by omega) ?_
  refine va_putF (D := D) (cl := classes) (ci := 2) (v := .ref q3) (ty := .array .int) (C := "StepMapModel") (T := F_N) (N := 12) hx hb ht i_N tt_N tt_N_ok n_N hown hk.1 hP hD hS 0 rfl rfl 4 (by decide) (ht _ mw_1_186) (fun _ h9 => h9) rfl hin rfl (by decide +kernel) rfl rfl (Nat.le_of_ble_eq_true rfl) d_N_init_28 (fun H locs hP hD hS => ?_)
  have hP : va_P D classes [(h, .inr (2, [.int 0, .int 0, .ref q1, .ref q2, .ref q3, .null, .int 0, .int 0, .int 0, .int 0, .int 0, .int 0])), (q1, .inl (cA, 2048, .inl (fun _ => 0))), (q2, .inl (cA, 2048, .inl (fun _ => 0))), (q3, .inl (cA, 2048, .inl (fun _ => 0)))] H := hP
  have hD : va_D A [(h, .inr (2, [.int 0, .int 0, .ref q1, .ref q2, .ref q3, .null, .int 0, .int 0, .int 0, .int 0, .int 0, .int 0])), (q1, .inl (cA, 2048, .inl (fun _ => 0))), (q2, .inl (cA, 2048, .inl (fun _ => 0))), (q3, .inl (cA, 2048, .inl (fun _ => 0)))] := hD
  refine lv_aload_n hx hb d_N_init_31 rfl (lv_at hl 0 rfl) ?_
  refine lv_iconst (v := 2) hx hb d_N_init_32 (by decide) ?_
  refine x_top (z := (nI 2)) (rfl) ?_
  refine va_newa (D := D) (cl := classes) (atype := .int) (ty := .int) (n := (nI 2)) (N' := 2) (a0 := (2, .inl (fun _ => 0))) hx hb (ht _ mw_1_43) rfl hk.1 hP hD hS hA (fun _ => rfl) (nI_pos (by decide)) (nI_clamp (by decide)) (Nat.le_of_ble_eq_true rfl) (Nat.le_of_ble_eq_true rfl) (Nat.le_of_ble_eq_true rfl) d_N_init_33 (fun q4 cB H hK hP hD hS => ?_)
  have eA : cA = cB := Option.some.inj ((hk.1.2 0 _ rfl).2.symm.trans (hK.2 1 _ rfl).2)
  subst eA
  have hP : va_P D classes [(h, .inr (2, [.int 0, .int 0, .ref q1, .ref q2, .ref q3, .null, .int 0, .int 0, .int 0, .int 0, .int 0, .int 0])), (q1, .inl (cA, 2048, .inl (fun _ => 0))), (q2, .inl (cA, 2048, .inl (fun _ => 0))), (q3, .inl (cA, 2048, .inl (fun _ => 0))), (q4, .inl (cA, 2, .inl (fun _ => 0)))] H := hP
  have hD : va_D A [(h, .inr (2, [.int 0, .int 0, .ref q1, .ref q2, .ref q3, .null, .int 0, .int 0, .int 0, .int 0, .int 0, .int 0])), (q1, .inl (cA, 2048, .inl (fun _ => 0))), (q2, .inl (cA, 2048, .inl (fun _ => 0))), (q3, .inl (cA, 2048, .inl (fun _ => 0))), (q4, .inl (cA, 2, .inl (fun _ => 0)))] := hD
  refine W.widen (k := 4) (n := 6146) (by omega) (by omega) ?_
  refine va_putF (D := D) (cl := classes) (ci := 2) (v := .ref q4) (ty := .array .int) (C := "StepMapModel") (T := F_N) (N := 12) hx hb ht i_N tt_N tt_N_ok n_N hown hk.1 hP hD hS 0 rfl rfl 5 (by decide) (ht _ mw_1_187) (fun _ h9 => h9) rfl hin rfl (by decide +kernel) rfl rfl (Nat.le_of_ble_eq_true rfl) d_N_init_35 (fun H locs hP hD hS => ?_)
  have hP : va_P D classes [(h, .inr (2, [.int 0, .int 0, .ref q1, .ref q2, .ref q3, .ref q4, .int 0, .int 0, .int 0, .int 0, .int 0, .int 0])), (q1, .inl (cA, 2048, .inl (fun _ => 0))), (q2, .inl (cA, 2048, .inl (fun _ => 0))), (q3, .inl (cA, 2048, .inl (fun _ => 0))), (q4, .inl (cA, 2, .inl (fun _ => 0)))] H := hP
  have hD : va_D A [(h, .inr (2, [.int 0, .int 0, .ref q1, .ref q2, .ref q3, .ref q4, .int 0, .int 0, .int 0, .int 0, .int 0, .int 0])), (q1, .inl (cA, 2048, .inl (fun _ => 0))), (q2, .inl (cA, 2048, .inl (fun _ => 0))), (q3, .inl (cA, 2048, .inl (fun _ => 0))), (q4, .inl (cA, 2, .inl (fun _ => 0)))] := hD
  have fin : ∀ (H : Heap) (locs : List Loc) (ls : Array Slot), va_P D classes [(h, .inr (2, [.int 0, .int 0, .ref q1, .ref q2, .ref q3, .ref q4, .int 0, .int 0, .int 0, .int 0, .int 0, .int 0])), (q1, .inl (cA, 2048, .inl (fun _ => 0))), (q2, .inl (cA, 2048, .inl (fun _ => 0))), (q3, .inl (cA, 2048, .inl (fun _ => 0))), (q4, .inl (cA, 2, .inl (fun _ => 0)))] H → va_D A [(h, .inr (2, [.int 0, .int 0, .ref q1, .ref q2, .ref q3, .ref q4, .int 0, .int 0, .int 0, .int 0, .int 0, .int 0])), (q1, .inl (cA, 2048, .inl (fun _ => 0))), (q2, .inl (cA, 2048, .inl (fun _ => 0))), (q3, .inl (cA, 2048, .inl (fun _ => 0))), (q4, .inl (cA, 2, .inl (fun _ => 0)))] → va_S A s.heap H locs → lv_has ls 3 [(2, .int (nI (hv x))), (0, .ref h), (1, .int x)] → W p l e { frames := 1, cells := 4, slots := 6146, locals := 20 } s m args below meth cd H locs 4 6146 Q (F0 m 62 ls []) := by
    intro H locs ls hP hD hS hl
    refine lv_aload_n hx hb d_N_init_62 rfl (lv_at hl 1 rfl) ?_
    refine lv_iload_n hx hb d_N_init_63 rfl (lv_at hl 0 rfl) ?_
    refine va_putF (D := D) (cl := classes) (ci := 2) (v := .int (nI (hv x))) (ty := .int) (C := "StepMapModel") (T := F_N) (N := 12) hx hb ht i_N tt_N tt_N_ok n_N hown hk.1 hP hD hS 0 rfl rfl 1 (by decide) (ht _ mw_1_183) (fun _ h9 => h9) rfl hin rfl (by decide +kernel) rfl rfl (Nat.le_of_ble_eq_true rfl) d_N_init_64 (fun H locs hP hD hS => ?_)
    have hP : va_P D classes [(h, .inr (2, [.int 0, .int (nI (hv x)), .ref q1, .ref q2, .ref q3, .ref q4, .int 0, .int 0, .int 0, .int 0, .int 0, .int 0])), (q1, .inl (cA, 2048, .inl (fun _ => 0))), (q2, .inl (cA, 2048, .inl (fun _ => 0))), (q3, .inl (cA, 2048, .inl (fun _ => 0))), (q4, .inl (cA, 2, .inl (fun _ => 0)))] H := hP
    have hD : va_D A [(h, .inr (2, [.int 0, .int (nI (hv x)), .ref q1, .ref q2, .ref q3, .ref q4, .int 0, .int 0, .int 0, .int 0, .int 0, .int 0])), (q1, .inl (cA, 2048, .inl (fun _ => 0))), (q2, .inl (cA, 2048, .inl (fun _ => 0))), (q3, .inl (cA, 2048, .inl (fun _ => 0))), (q4, .inl (cA, 2, .inl (fun _ => 0)))] := hD
    refine lv_aload_n hx hb d_N_init_67 rfl (lv_at hl 1 rfl) ?_
    refine va_get (D := D) (cl := classes) (ci := 2) (v := .ref q4) (C := "StepMapModel") (T := F_N) (N := 12) hx hb ht i_N hown hk.1 hP 0 rfl rfl 5 (by decide) (ht _ mw_1_187) (fun _ h9 => h9) rfl d_N_init_68 ?_
    refine lv_iconst (v := 0) hx hb d_N_init_71 (by decide) ?_
    refine x_top (z := (nI 0)) (nI_0.symm) ?_
    refine lv_bipush (v := 8) hx hb d_N_init_72 (by decide) ?_
    refine x_ast hx hb hk hP hD hS 4 0 rfl rfl (i := 0) (x := 8) (by decide) (by decide) d_N_init_74 (fun H locs hP hD hS => ?_)
    have hP : va_P D classes [(h, .inr (2, [.int 0, .int (nI (hv x)), .ref q1, .ref q2, .ref q3, .ref q4, .int 0, .int 0, .int 0, .int 0, .int 0, .int 0])), (q1, .inl (cA, 2048, .inl (fun _ => 0))), (q2, .inl (cA, 2048, .inl (fun _ => 0))), (q3, .inl (cA, 2048, .inl (fun _ => 0))), (q4, .inl (cA, 2, .inl (upd (fun _ => 0) 0 8)))] H := hP
    have hD : va_D A [(h, .inr (2, [.int 0, .int (nI (hv x)), .ref q1, .ref q2, .ref q3, .ref q4, .int 0, .int 0, .int 0, .int 0, .int 0, .int 0])), (q1, .inl (cA, 2048, .inl (fun _ => 0))), (q2, .inl (cA, 2048, .inl (fun _ => 0))), (q3, .inl (cA, 2048, .inl (fun _ => 0))), (q4, .inl (cA, 2, .inl (upd (fun _ => 0) 0 8)))] := hD
    exact hret _ _ _ _ _ (q1, q2, q3, q4) d_N_init_75 hP hD hS trivial rfl
  have loop : ∀ (f n : Nat) (H : Heap) (locs : List Loc) (ls : Array Slot), pw n → n * 2 ^ f = 2048 → va_P D classes [(h, .inr (2, [.int 0, .int 0, .ref q1, .ref q2, .ref q3, .ref q4, .int 0, .int 0, .int 0, .int 0, .int 0, .int 0])), (q1, .inl (cA, 2048, .inl (fun _ => 0))), (q2, .inl (cA, 2048, .inl (fun _ => 0))), (q3, .inl (cA, 2048, .inl (fun _ => 0))), (q4, .inl (cA, 2, .inl (fun _ => 0)))] H → va_D A [(h, .inr (2, [.int 0, .int 0, .ref q1, .ref q2, .ref q3, .ref q4, .int 0, .int 0, .int 0, .int 0, .int 0, .int 0])), (q1, .inl (cA, 2048, .inl (fun _ => 0))), (q2, .inl (cA, 2048, .inl (fun _ => 0))), (q3, .inl (cA, 2048, .inl (fun _ => 0))), (q4, .inl (cA, 2, .inl (fun _ => 0)))] → va_S A s.heap H locs → lv_has ls 3 [(2, .int (nI n)), (0, .ref h), (1, .int x)] → hvn x f n = hv x → W p l e { frames := 1, cells := 4, slots := 6146, locals := 20 } s m args below meth cd H locs 4 6146 Q (F0 m 41 ls []) := by
    intro f
    induction f with
    | zero => intro n H locs ls hn h2; have := hn.le; omega
    | succ f ih =>
      intro n H locs ls hn h2 hP hD hS hl e1
      have hle := hn.le
      have hlf := half_le hn x
      refine lv_iload_n hx hb d_N_init_41 rfl (lv_at hl 0 rfl) ?_
      refine lv_sipush (v := 1024) hx hb d_N_init_42 (by decide) ?_
      refine lv_icmp_ge (tgt := 62) hx hb d_N_init_45 (by decide) (fun c1 => ?_) (fun c1 => ?_)
      · skip
        have q0 : 1024 ≤ n := (nI_leI (a := 1024) (by decide) (by omega)).mp c1
        have q1 : ¬ (2 * n ≤ 1024 ∧ nI (2 * n) ≤ x) := fun z => by omega
        simp only [hvn, if_neg q1] at e1
        rw [e1] at hl
        exact fin _ _ _ hP hD hS hl
      · skip
        have q0 : n < 1024 := Nat.lt_of_not_le fun z => c1 (nI_le z (by omega))
        refine lv_iload_n hx hb d_N_init_48 rfl (lv_at hl 0 rfl) ?_
        refine lv_iload_n hx hb d_N_init_49 rfl (lv_at hl 2 rfl) ?_
        refine lv_iconst (v := 2) hx hb d_N_init_50 (by decide) ?_
        refine lv_idiv hx hb d_N_init_51 (by decide) ?_
        refine lv_icmp_gt (tgt := 62) hx hb d_N_init_52 (by decide) (fun c2 => ?_) (fun c2 => ?_)
        · skip
          have q1 : ¬ (2 * n ≤ 1024 ∧ nI (2 * n) ≤ x) := fun z => by have := (hlf.mpr z).2; rw [Int32.le_iff_toInt_le] at this; rw [Int32.lt_iff_toInt_lt] at c2; omega
          simp only [hvn, if_neg q1] at e1
          rw [e1] at hl
          exact fin _ _ _ hP hD hS hl
        · skip
          have q1 : 2 * n ≤ 1024 ∧ nI (2 * n) ≤ x := hlf.mp ⟨q0, by rw [Int32.lt_iff_toInt_lt] at c2; rw [Int32.le_iff_toInt_le]; omega⟩
          simp only [hvn, if_pos q1] at e1
          refine lv_iload_n hx hb d_N_init_55 rfl (lv_at hl 0 rfl) ?_
          refine lv_iload_n hx hb d_N_init_56 rfl (lv_at hl 0 rfl) ?_
          refine lv_iadd hx hb d_N_init_57 ?_
          refine x_top (z := (nI (2 * n))) (by rw [nI_add]; congr 1; omega) ?_
          refine lv_istore_n (lv' := [(2, .int (nI (2 * n))), (0, .ref h), (1, .int x)]) hx hb d_N_init_58 rfl hl (by decide) rfl (fun ls hl => ?_)
          refine lv_goto (tgt := 41) hx hb d_N_init_59 (by decide) ?_
          exact ih (2 * n) _ _ _ (hn.dbl q1.1) (by rw [Nat.pow_succ] at h2; rw [Nat.mul_comm 2 n, Nat.mul_assoc, Nat.mul_comm 2]; exact h2) hP hD hS hl e1
  refine lv_bipush (v := 8) hx hb d_N_init_38 (by decide) ?_
  refine x_top (z := (nI 8)) (rfl) ?_
  refine lv_istore_n (lv' := [(2, .int (nI 8)), (0, .ref h), (1, .int x)]) hx hb d_N_init_40 rfl hl (by decide) rfl (fun ls hl => ?_)
  exact loop 8 8 _ _ _ pw8 rfl hP hD hS hl rfl
def cellA (L : Nat) (xs : Nat → Int32) : Int32 := if 0 < L then xs 0 else 0
set_option maxHeartbeats 4000000 in
set_option maxRecDepth 100000 in
theorem c_L_cell (l : Launch) (b L : Nat) (xs : Nat → Int32) (sz : Nat) (hL : L ≤ 1537) : Met l y_L_cell (Cond.code y_L_cell b_L_cell 2 (some .int) :: wgood) { frames := 0, cells := 0, slots := 0, locals := 0 } (va_Pc [.ref b, .int 0] (fun U => U.heap.size = sz ∧ va_X b L xs U U.heap)) (va_Qi (fun r (_ : Unit) => r = cellA L xs) (fun _ _ => True) (fun q => sz ≤ q)) 0 0 (fun q => sz ≤ q) := by
  refine Met.ofW (cc := b_L_cell) (maxL := 2) (ret := some .int) (by decide +kernel) rfl ?_
  intro p e s m args below meth cd s₁ B hml hv
  obtain ⟨rfl, hsz, hX⟩ := hv
  have hx := B.exec
  have hb := B.bytes
  have hr := B.returns
  have hlocks := B.notSynchronized
  subst hsz
  have hS : va_S (fun q => s.heap.size ≤ q) s.heap s.heap [] := va_S.rf
  have hbl : b < s.heap.size := by
    obtain ⟨scr, h1, -⟩ := hX
    exact (Array.getElem?_eq_some_iff.mp h1).1
  have hbA : ¬ (fun q : Nat => s.heap.size ≤ q) b := Nat.not_le.mpr hbl
  have hl := lv_entry ([.ref b, .int 0]) (n := 2) (Nat.le_of_ble_eq_true rfl)
  rw [lg_entry_eq]
  generalize (lg_sl ([.ref b, .int 0]) ++ List.replicate (2 - (lg_sl ([.ref b, .int 0])).length) Slot.unset).toArray = ls at hl ⊢
  have hl : lv_has ls 2 [(0, .ref b), (1, .int 0)] := hl
  refine lv_iload_n hx hb d_L_cell_0 rfl (lv_at hl 1 rfl) ?_
  refine lv_aload_n hx hb d_L_cell_1 rfl (lv_at hl 0 rfl) ?_
  refine va_slen hx hb hX hbl hbA hS d_L_cell_2 ?_
  refine lv_icmp_ge (tgt := 12) hx hb d_L_cell_3 (by decide) (fun c1 => ?_) (fun c1 => ?_)
  · have q1 : ¬ 0 < L := fun z => nI_ge (a := 0) z (by omega) c1
    refine lv_iconst (v := 0) hx hb d_L_cell_12 (by decide) ?_
    exact W.iret (v := 0) hx hb hr (fun t ht hW => ⟨⟨0, (), rfl, (if_neg q1).symm, trivial⟩, hS.F ht⟩) hS.2.2 d_L_cell_13
  · have q1 : 0 < L := Nat.lt_of_not_le fun z => c1 (nI_le (b := 0) z (by decide))
    refine lv_aload_n hx hb d_L_cell_6 rfl (lv_at hl 0 rfl) ?_
    refine lv_iload_n hx hb d_L_cell_7 rfl (lv_at hl 1 rfl) ?_
    refine va_sld hx hb hX hbl hbA hS (vp_in_nI (n := 0) q1 (by omega)) d_L_cell_8 ?_
    refine lv_goto (tgt := 13) hx hb d_L_cell_9 (by decide) ?_
    exact W.iret (v := xs 0) hx hb hr (fun t ht hW => ⟨⟨xs 0, (), rfl, (if_pos q1).symm, trivial⟩, hS.F ht⟩) hS.2.2 d_L_cell_13
end
section
-- ===== end of PART A; then your names; then what follows =====
/-! THE CLAIM OUT OF ONE WALK OF THE LAW'S BODY. Your part is whole_start (and what it stands on); all else here is the same for every law, but numbers. -/
def R_law : String := "StepMapLaw"
def lw_P (b : Addr) (xs : List Int32) (args : Array Value) (s : State) : Prop := args = #[.ref b] ∧ s.IntsAt b xs ∧ xs.length ≤ 1537 ∧ (Jvm.Cond.and given_1 narrow_1).before args s = true
def lw_Q (_ : Array Value) (s : State) (o : Outcome) (t : State) : Prop := o = .returned (some (.int 1)) ∧ Framed s o t [] 600000 7302250
def lw_Z (below : List Frame) (a : Array Value) (s : State) : State → Prop := fun t => ∃ o, t.status = .running ∧ Ended t below o ∧ lw_Q a s o t
/-- the law's own end, with 1 on the stack, nothing written that was there before, its room as the claim has it -/
theorem lw_ret {p : Program} {l : Launch} {e : Env} {s : State} {m : MethodId} {below : List Frame} {meth : Method} {c : Code} {b : Nat} (hx : p.tables.exec = Jvm.exec) (hb : c.code = code) (hr : meth.sig.returnType = ret) (hlocks : meth.locks = false) {pc : Nat} {H : Heap} {ls : Array Slot} (hdg : decode code pc = .ok (.ireturn, 1)) : W p l e room_1 s m #[Value.ref b] below meth c H [] 600000 7302250 (lw_Z below #[Value.ref b] s) (F0 m pc ls [.int 1]) := by
  intro T hT X
  obtain ⟨fs, hret, hrun, hended, hW, hframe⟩ := X.leave (v := some (.int 1)) (hlocks := hlocks) (fun h => by rw [hr] at h; cases h)
  have hmeth' : T.vm.method? m = some meth := X.method'
  refine ⟨T.setFrames fs, ?_, .returned (some (.int 1)), hrun, hended, rfl, ⟨_, rfl⟩, hW, hframe⟩
  jvm_step X.here [X.here.top, hx, hb, hdg, hmeth', hr, ret, narrow_b1]
  (try refine ⟨rfl, ?_⟩); (try refine ⟨rfl, ?_⟩)
  first | (intro acts; rw [hret _ acts rfl rfl rfl]) | rw [hret _ _ rfl rfl rfl]
  exact Steps.refl _
/-- what holds at the law's entry: the machine, the code, the tables' words (any of lw_tbl by 'hts w (by decide +kernel)'), the script of L ints xs at the cell b, what the Statement gives of the start (any of its parts by flat_of_before) -/
def lw_At (p : Program) (s : State) (m : MethodId) (meth : Method) (c : Code) (b L : Nat) (xs : Nat → Int32) : Prop :=
  p.tables.exec = Jvm.exec ∧ c.code = code ∧ meth.sig.returnType = ret ∧ c.maxLocals = 4 ∧ s.vm.findClass R_law = some m.cls ∧ (∀ w ∈ lw_tbl, w.before #[Value.ref b] s = true) ∧ va_X b L xs s s.heap ∧ b < s.heap.size ∧ meth.locks = false ∧ (Jvm.Cond.and given_1 narrow_1).before #[Value.ref b] s = true
-- ===== YOUR PART BEGINS =====
/-! what the law's walk stands on -/
theorem gS {own : String} {idx : Nat} {y : MethodName} {b : ByteArray} {n : Nat} {r : Option FieldType} (h1 : Cond.methodLink own idx y ∈ wgood) (h2 : Cond.static y ∈ wgood) (h3 : Cond.initialized own ∈ wgood) (h4 : Cond.code y b n r ∈ wgood) : GoodIn wgood (wsS own idx y (Cond.code y b n r :: wgood)) := by
  intro w hw
  rcases List.mem_append.mp hw with hw | hw
  · simp only [List.mem_cons, List.not_mem_nil, or_false] at hw
    rcases hw with rfl | rfl | rfl
    · exact ⟨h1, good_w _ h1⟩
    · exact ⟨h2, good_w _ h2⟩
    · exact ⟨h3, good_w _ h3⟩
  · exact gG h4 w hw
theorem lw_NW {args : Array Value} {s : State} (hts : ∀ w ∈ lw_tbl, w.before args s = true) : NW s := by
  have t : ∀ (i : Nat) (w : Cond), tables_1_1[i]? = some w → w.onTables = true → va_Nw w s := fun i w h1 h2 => va_Nw.of h2 (hts w (List.mem_append_right _ (List.mem_append_left _ (List.mem_of_getElem? h1))))
  exact ⟨t 23 _ (by decide +kernel) rfl, t 25 _ (by decide +kernel) rfl, t 27 _ (by decide +kernel) rfl, t 29 _ (by decide +kernel) rfl, t 30 _ (by decide +kernel) rfl, t 83 _ (by decide +kernel) rfl⟩
theorem lw_arr {args : Array Value} {s : State} (h : (Cond.arrayClass .int).before args s = true) : ∃ cA : ClassId, ArrOfT s cA .int ∧ va_RA s cA .int := by
  obtain ⟨cA, kA, comp, h1, h2, h3⟩ := Cond.arrayClass_spec h
  exact ⟨cA, fun n z => ⟨fun k h => (by cases h), kA, h2, comp, h3⟩, h1⟩
/-- a static method of the law's own, of no world but the script -/
theorem xS_cell {p : Program} {l : Launch} {e : Env} {s : State} {m : MethodId} {args : Array Value} {below : List Frame} {meth : Method} {cd : Code} {H : Heap} {locs : List Loc} {cells slots : Nat} {Q : State → Prop} {pc b L : Nat} {ls : Array Slot} {rest : List Value} {D : va_G} {A : Nat → Prop} {ws : va_W} {xs : Nat → Int32}
    (F : CallFix p m cd code 4 s args wgood "StepMapLaw") (hL : L ≤ 1537) (hX : va_X b L xs s s.heap) (hbl : b < s.heap.size) (hbA : ¬ A b) (hP : va_P D classes ws H) (hS : va_S A s.heap H locs) (hA : ∀ q, s.heap.size ≤ q → A q)
    (hsize : ls.size = 4) (hw8 : (rest.map fun v => v.category).sum ≤ 8) (hdg : decode code pc = .ok (.invokestatic 9, 3)) (hf : cells ≤ room_1.cells ∧ slots ≤ room_1.slots)
    (kk : ∀ (H1 : Heap) (locs1 : List Loc), va_P D classes ws H1 → va_S A s.heap H1 locs1 → W p l e room_1 s m args below meth cd H1 locs1 cells slots Q (F0 m (pc + 3) ls (.int (cellA L xs) :: rest))) : W p l e room_1 s m args below meth cd H locs cells slots Q (F0 m pc ls (.int 0 :: .ref b :: rest)) := by
  have hX1 : va_X b L xs s H := hX.kept (hS.2.1 b hbl hbA)
  refine va_calli (va_runS F (c_L_cell l b L xs H.size hL) (cwS 2 F.2.2.2.2 (gS mw_1_173 mw_1_174 mw_1_0 mw_1_175) rfl rfl rfl (by decide +kernel) ⟨Nat.le_of_ble_eq_true rfl, Nat.le_of_ble_eq_true rfl⟩) ⟨fun a U g mk q => ?_, fun U hU hW => ⟨rfl, by rw [hU], by rw [hU]; exact hX1.moved hW.alike⟩⟩ rfl rfl hsize rfl (lv_room hw8) hdg hf) hS (fun q h1 h2 => absurd h1 (Nat.not_lt.mpr h2)) (fun q h => hA q (Nat.le_trans hS.1 h)) (fun r u t H1 locs1 ht hvm hp hB hz1 hk1 hS1 => ?_)
  · obtain ⟨q0, q1, qX⟩ := q
    exact ⟨q0, q1, va_X.moved (u := U) (U := U.calling g mk a) (Vm.Alike.refl U.vm) qX⟩
  · have hp : r = cellA L xs := hp
    subst hp
    exact kk H1 locs1 (hP.kept fun k q hq => hk1 q.1 (hP k q hq).lt (Nat.not_le.mpr (hP k q hq).lt)) hS1
end
section
set_option maxHeartbeats 4000000 in
set_option maxRecDepth 100000 in
/-- THE LAW'S LOOP: at its head map and reference hold one state -/
theorem law_loop {p : Program} {l : Launch} {e : Env} {s : State} {m : MethodId} {below : List Frame} {meth : Method} {cd : Code} {D : va_G} {cA : ClassId} {b L : Nat} {xs : Nat → Int32} {x0 m0 hf : Nat} {qd : Ad} (hL : L ≤ 1537) (C0 : lw_At p s m meth cd b L xs) (hk : kp D [(cA, .int)] s) (hA : ∀ q : Nat, s.heap.size ≤ q → (fun q : Nat => s.heap.size ≤ q) q) :
    ∀ (n i : Nat) (S : Sm) (u : Un) (ad1 ad2 : Ad) (fv ov th : Int32) (H : Heap) (locs : List Loc) (ls : Array Slot), L + 3 ≤ i + n → i ≤ L + 3 → IvS hf S → MRu S u → va_P D classes ((wS x0 hf ad1 ad2 cA S fv ov) ++ (wU m0 qd cA th hf S u)) H → va_D (fun q : Nat => s.heap.size ≤ q) ((wS x0 hf ad1 ad2 cA S fv ov) ++ (wU m0 qd cA th hf S u)) → va_S (fun q : Nat => s.heap.size ≤ q) s.heap H locs → lv_has ls 4 [(3, .int (nI i)), (0, .ref b), (1, .ref x0), (2, .ref m0)] → W p l e room_1 s m #[Value.ref b] below meth cd H locs 600000 7302250 (lw_Z below #[Value.ref b] s) (F0 m 28 ls []) := by
  obtain ⟨hx, hb, hr, hml, hown, hts, hX, hbl, hlocks, hgv⟩ := C0
  have ht : ∀ w ∈ wgood, w.before #[Value.ref b] s = true := fun w hw => hts w (List.mem_filter.mp hw).1
  have hbA : ¬ (fun q : Nat => s.heap.size ≤ q) b := Nat.not_le.mpr hbl
  generalize hAe : (fun q : Nat => s.heap.size ≤ q) = A at hA hbA ⊢
  intro n
  induction n with
  | zero =>
    intro i S u ad1 ad2 fv ov th H locs ls h1 h2 hiv hmr hP hD hS hl
    have hi : i = L + 3 := by omega
    refine lv_iload_n hx hb d_L_law_28 rfl (lv_at hl 0 rfl) ?_
    refine lv_aload_n hx hb d_L_law_29 rfl (lv_at hl 1 rfl) ?_
    refine va_slen hx hb hX hbl hbA hS d_L_law_30 ?_
    refine x_top (z := (nI L)) (rfl) ?_
    refine lv_iconst (v := 3) hx hb d_L_law_31 (by decide) ?_
    refine lv_isub hx hb d_L_law_32 ?_
    refine lv_icmp_gt (tgt := 292) hx hb d_L_law_33 (by decide) (fun _ => ?_) (fun c9 => absurd (by have := pk_sub_toInt (a := L) (b := 3) (by omega) (by decide); rw [Int32.lt_iff_toInt_lt]; have e3 : (nI L - 3).toInt = (L : Int) - 3 := this; rw [e3, nI_toInt (by omega)]; omega) c9)
    refine lv_iconst (v := 1) hx hb d_L_law_292 (by decide) ?_
    refine va_forget (fun q hq => by have := hS.2.2 q hq; rw [← hAe] at this; exact this) ?_
    exact lw_ret hx hb hr hlocks d_L_law_293
  | succ n ih =>
    intro i S u ad1 ad2 fv ov th H locs ls h1 h2 hiv hmr hP hD hS hl
    by_cases hi3 : i + 3 ≤ L
    · skip
      refine lv_iload_n hx hb d_L_law_28 rfl (lv_at hl 0 rfl) ?_
      refine lv_aload_n hx hb d_L_law_29 rfl (lv_at hl 1 rfl) ?_
      refine va_slen hx hb hX hbl hbA hS d_L_law_30 ?_
      refine x_top (z := (nI L)) (rfl) ?_
      refine lv_iconst (v := 3) hx hb d_L_law_31 (by decide) ?_
      refine lv_isub hx hb d_L_law_32 ?_
      refine lv_icmp_gt (tgt := 292) hx hb d_L_law_33 (by decide) (fun c9 => absurd c9 (by have := pk_sub_toInt (a := L) (b := 3) (by omega) (by decide); rw [Int32.lt_iff_toInt_lt]; have e3 : (nI L - 3).toInt = (L : Int) - 3 := this; rw [e3, nI_toInt (by omega)]; omega)) (fun _ => ?_)
      obtain ⟨fc, F, oc, O, cur, cnt, wk⟩ := S
      obtain ⟨c, mv, cq, vi, SS, KK, VV, ZZ⟩ := u
      obtain ⟨hc2, eF, eO, hz, hmo⟩ := hmr
      have eF : F = (tb c SS KK VV) := eF
      have eO : O = (tb (1 - c) SS KK VV) := eO
      subst eF eO
      have hmr : MR fc (tb c SS KK VV) oc (tb (1 - c) SS KK VV) cur c mv cq SS KK VV ZZ := ⟨hc2, rfl, rfl, hz, hmo⟩
      have hc2 : c < 2 := hc2
      have hz : ZZ c = nI fc := hz
      have hmo : (cur < oc ∧ mv = 1 ∧ cq = nI cur ∧ ZZ (1 - c) = nI oc) ∨ (¬ cur < oc ∧ mv = 0) := hmo
      have hiv : Iv hf fc (tb c SS KK VV) oc (tb (1 - c) SS KK VV) cur cnt := hiv
      obtain ⟨hh, hfh, hf8, hcu, ho, hct⟩ := hiv.bounds
      have hP : va_P D classes ((wM x0 hf ad1.1 ad2.1 ad1 ad2 cA (nI cur) (nI cnt) wk (nI fc) fv (tb c SS KK VV) (nI oc) ov (tb (1 - c) SS KK VV)) ++ (wN m0 qd cA th (nI hf) (nI c) mv cq (nI cnt) vi wk SS KK VV ZZ)) H := hP
      have hD : va_D A ((wM x0 hf ad1.1 ad2.1 ad1 ad2 cA (nI cur) (nI cnt) wk (nI fc) fv (tb c SS KK VV) (nI oc) ov (tb (1 - c) SS KK VV)) ++ (wN m0 qd cA th (nI hf) (nI c) mv cq (nI cnt) vi wk SS KK VV ZZ)) := hD
      have next : ∀ (S : Sm) (u : Un) (ad1 ad2 : Ad) (fv ov th : Int32) (H : Heap) (locs : List Loc), IvS hf S → MRu S u → va_P D classes ((wS x0 hf ad1 ad2 cA S fv ov) ++ (wU m0 qd cA th hf S u)) H → va_D A ((wS x0 hf ad1 ad2 cA S fv ov) ++ (wU m0 qd cA th hf S u)) → va_S A s.heap H locs → W p l e room_1 s m #[Value.ref b] below meth cd H locs 600000 7302250 (lw_Z below #[Value.ref b] s) (F0 m 286 ls []) := by
        intro S u ad1 ad2 fv ov th H locs hiv hmr hP hD hS
        refine lv_iinc (v := (nI (i + 3))) (lv' := [(3, .int (nI (i + 3))), (0, .ref b), (1, .ref x0), (2, .ref m0)]) hx hb d_L_law_286 hl (k := 0) rfl (nI_add i 3) (by decide) rfl (fun ls hl => ?_)
        refine lv_goto (tgt := 28) hx hb d_L_law_289 (by decide) ?_
        exact ih (i + 3) S u ad1 ad2 fv ov th H locs ls (by omega) (by omega) hiv hmr hP hD hS hl
      refine lv_aload_n hx hb d_L_law_36 rfl (lv_at hl 1 rfl) ?_
      refine lv_iload_n hx hb d_L_law_37 rfl (lv_at hl 0 rfl) ?_
      refine va_sld hx hb hX hbl hbA hS (vp_in_nI (n := i) (by omega) (by omega)) d_L_law_38 ?_
      refine x_top (z := (xs i)) (congrArg xs (nI_clamp (by omega))) ?_
      refine lv_bipush (v := 15) hx hb d_L_law_39 (by decide) ?_
      refine lv_iand hx hb d_L_law_41 ?_
      obtain ⟨j, hj, ej⟩ := pk_andE (xs i) (m := 15) 4 (by decide)
      refine x_top (z := (nI j)) (ej) ?_
      rcases (show j = 0 ∨ j = 1 ∨ j = 2 ∨ j = 3 ∨ j = 4 ∨ j = 5 ∨ j = 6 ∨ j = 7 ∨ j = 8 ∨ j = 9 ∨ 10 ≤ j by have : (2 : Nat) ^ 4 = 16 := rfl; omega) with rfl | rfl | rfl | rfl | rfl | rfl | rfl | rfl | rfl | rfl | hj10
      · skip
        refine lv_tableIn (off := 54) (tgt := 96) hx hb d_L_law_42 (by decide) (by decide) (by decide) (by decide) ?_
        refine lv_aload_n hx hb d_L_law_96 rfl (lv_at hl 2 rfl) ?_
        refine lv_aload_n hx hb d_L_law_97 rfl (lv_at hl 1 rfl) ?_
        refine lv_iload_n hx hb d_L_law_98 rfl (lv_at hl 0 rfl) ?_
        refine lv_iconst (v := 1) hx hb d_L_law_99 (by decide) ?_
        refine lv_iadd hx hb d_L_law_100 ?_
        refine x_top (z := (nI (i + 1))) (nI_add i 1) ?_
        refine va_sld hx hb hX hbl hbA hS (vp_in_nI (n := (i + 1)) (by omega) (by omega)) d_L_law_101 ?_
        refine x_top (z := (xs (i + 1))) (congrArg xs (nI_clamp (by omega))) ?_
        refine lv_aload_n hx hb d_L_law_102 rfl (lv_at hl 1 rfl) ?_
        refine lv_iload_n hx hb d_L_law_103 rfl (lv_at hl 0 rfl) ?_
        refine lv_iconst (v := 2) hx hb d_L_law_104 (by decide) ?_
        refine lv_iadd hx hb d_L_law_105 ?_
        refine x_top (z := (nI (i + 2))) (nI_add i 2) ?_
        refine va_sld hx hb hX hbl hbA hS (vp_in_nI (n := (i + 2)) (by omega) (by omega)) d_L_law_106 ?_
        refine x_top (z := (xs (i + 2))) (congrArg xs (nI_clamp (by omega))) ?_
        refine xV_i (D := D) (k := 2) (ci := 0) (q := ("StepMap", F_M, 6)) (wr := (wN m0 qd cA th (nI hf) (nI c) mv cq (nI cnt) vi wk SS KK VV ZZ)) (wb := fun u => ((wS x0 hf u.1 u.2.1 cA (oput hf fc (tb c SS KK VV) oc (tb (1 - c) SS KK VV) cur cnt (xs (i + 1)) (xs (i + 2))) u.2.2.1 u.2.2.2) ++ (wN m0 qd cA th (nI hf) (nI c) mv cq (nI cnt) vi wk SS KK VV ZZ))) (rest := []) ⟨hx, hb, hml, hown, ht⟩ (c_M_put l D cA x0 hf ad1 ad2 cur cnt fc oc wk fv ov (tb c SS KK VV) (tb (1 - c) SS KK VV) (xs (i + 1)) (xs (i + 2)) hiv) gv_L_21 (by decide +kernel) rfl ⟨Nat.le_of_ble_eq_true rfl, Nat.le_of_ble_eq_true rfl⟩ hk hP hD hS hA [0, 1, 2, 3, 4, 5, 6, 7, 8] [9, 10, 11, 12, 13] [5, 6, 7, 8, 9, 10, 11, 12, 13, 0, 1, 2, 3, 4] rfl rfl (fun _ => rfl) ⟨rfl, rfl, rfl⟩ (by decide) rfl rfl hl.1 rfl (Nat.le_of_ble_eq_true rfl) d_L_law_107 ⟨Nat.le_of_ble_eq_true rfl, Nat.le_of_ble_eq_true rfl⟩ (fun r u H locs hp hP hD hS => ?_)
        have hp : r = (oputA hf fc (tb c SS KK VV) oc (tb (1 - c) SS KK VV) cur cnt (xs (i + 1))) := hp
        have hp := hp.symm
        subst hp
        obtain ⟨ad3, ad4, fv3, ov3⟩ := u
        have hP : va_P D classes ((wS x0 hf ad3 ad4 cA (oput hf fc (tb c SS KK VV) oc (tb (1 - c) SS KK VV) cur cnt (xs (i + 1)) (xs (i + 2))) fv3 ov3) ++ (wN m0 qd cA th (nI hf) (nI c) mv cq (nI cnt) vi wk SS KK VV ZZ)) H := hP
        have hD : va_D A ((wS x0 hf ad3 ad4 cA (oput hf fc (tb c SS KK VV) oc (tb (1 - c) SS KK VV) cur cnt (xs (i + 1)) (xs (i + 2))) fv3 ov3) ++ (wN m0 qd cA th (nI hf) (nI c) mv cq (nI cnt) vi wk SS KK VV ZZ)) := hD
        refine lv_aload_n hx hb d_L_law_110 rfl (lv_at hl 3 rfl) ?_
        refine lv_aload_n hx hb d_L_law_111 rfl (lv_at hl 1 rfl) ?_
        refine lv_iload_n hx hb d_L_law_112 rfl (lv_at hl 0 rfl) ?_
        refine lv_iconst (v := 1) hx hb d_L_law_113 (by decide) ?_
        refine lv_iadd hx hb d_L_law_114 ?_
        refine x_top (z := (nI (i + 1))) (nI_add i 1) ?_
        refine va_sld hx hb hX hbl hbA hS (vp_in_nI (n := (i + 1)) (by omega) (by omega)) d_L_law_115 ?_
        refine x_top (z := (xs (i + 1))) (congrArg xs (nI_clamp (by omega))) ?_
        refine lv_aload_n hx hb d_L_law_116 rfl (lv_at hl 1 rfl) ?_
        refine lv_iload_n hx hb d_L_law_117 rfl (lv_at hl 0 rfl) ?_
        refine lv_iconst (v := 2) hx hb d_L_law_118 (by decide) ?_
        refine lv_iadd hx hb d_L_law_119 ?_
        refine x_top (z := (nI (i + 2))) (nI_add i 2) ?_
        refine va_sld hx hb hX hbl hbA hS (vp_in_nI (n := (i + 2)) (by omega) (by omega)) d_L_law_120 ?_
        refine x_top (z := (xs (i + 2))) (congrArg xs (nI_clamp (by omega))) ?_
        refine xV_i (D := D) (k := 2) (ci := 2) (q := ("StepMapModel", F_N, 12)) (wr := (wS x0 hf ad3 ad4 cA (oput hf fc (tb c SS KK VV) oc (tb (1 - c) SS KK VV) cur cnt (xs (i + 1)) (xs (i + 2))) fv3 ov3)) (wb := fun u => ((wS x0 hf ad3 ad4 cA (oput hf fc (tb c SS KK VV) oc (tb (1 - c) SS KK VV) cur cnt (xs (i + 1)) (xs (i + 2))) fv3 ov3) ++ (wU m0 qd cA 0 hf (oput hf fc (tb c SS KK VV) oc (tb (1 - c) SS KK VV) cur cnt (xs (i + 1)) (xs (i + 2))) u))) (rest := [.int (oputA hf fc (tb c SS KK VV) oc (tb (1 - c) SS KK VV) cur cnt (xs (i + 1)))]) ⟨hx, hb, hml, hown, ht⟩ (c_N_put l D cA m0 qd th hf c mv cq cnt vi wk SS KK VV ZZ fc oc cur (xs (i + 1)) (xs (i + 2)) hmr hiv) gv_L_25 (by decide +kernel) rfl ⟨Nat.le_of_ble_eq_true rfl, Nat.le_of_ble_eq_true rfl⟩ hk hP hD hS hA [9, 10, 11, 12, 13] [0, 1, 2, 3, 4, 5, 6, 7, 8] [0, 1, 2, 3, 4, 5, 6, 7, 8, 9, 10, 11, 12, 13] rfl rfl (fun _ => rfl) ⟨rfl, rfl, rfl⟩ (by decide) rfl rfl hl.1 rfl (Nat.le_of_ble_eq_true rfl) d_L_law_121 ⟨Nat.le_of_ble_eq_true rfl, Nat.le_of_ble_eq_true rfl⟩ (fun r u H locs hp hP hD hS => ?_)
        obtain ⟨hp, hM⟩ := hp
        have hp : r = (oputA hf fc (tb c SS KK VV) oc (tb (1 - c) SS KK VV) cur cnt (xs (i + 1))) := hp
        have hp := hp.symm
        subst hp
        refine lv_icmp_eq (tgt := 286) hx hb d_L_law_124 (by decide) (fun _ => ?_) (fun c9 => absurd (rfl) c9)
        exact next (oput hf fc (tb c SS KK VV) oc (tb (1 - c) SS KK VV) cur cnt (xs (i + 1)) (xs (i + 2))) u ad3 ad4 fv3 ov3 0 H locs (oput_Iv hiv) hM hP hD hS
      · skip
        refine lv_tableIn (off := 87) (tgt := 129) hx hb d_L_law_42 (by decide) (by decide) (by decide) (by decide) ?_
        refine lv_aload_n hx hb d_L_law_129 rfl (lv_at hl 2 rfl) ?_
        refine lv_aload_n hx hb d_L_law_130 rfl (lv_at hl 1 rfl) ?_
        refine lv_iload_n hx hb d_L_law_131 rfl (lv_at hl 0 rfl) ?_
        refine lv_iconst (v := 1) hx hb d_L_law_132 (by decide) ?_
        refine lv_iadd hx hb d_L_law_133 ?_
        refine x_top (z := (nI (i + 1))) (nI_add i 1) ?_
        refine va_sld hx hb hX hbl hbA hS (vp_in_nI (n := (i + 1)) (by omega) (by omega)) d_L_law_134 ?_
        refine x_top (z := (xs (i + 1))) (congrArg xs (nI_clamp (by omega))) ?_
        refine xV_i (D := D) (k := 1) (ci := 0) (q := ("StepMap", F_M, 6)) (wr := (wN m0 qd cA th (nI hf) (nI c) mv cq (nI cnt) vi wk SS KK VV ZZ)) (wb := fun u => ((wS x0 hf u.1 u.2.1 cA (fc, (tb c SS KK VV), oc, (tb (1 - c) SS KK VV), cur, cnt, nI (wkc fc (tb c SS KK VV) oc (tb (1 - c) SS KK VV) cur (xs (i + 1)))) u.2.2.1 u.2.2.2) ++ (wN m0 qd cA th (nI hf) (nI c) mv cq (nI cnt) vi wk SS KK VV ZZ))) (rest := []) ⟨hx, hb, hml, hown, ht⟩ (c_M_get l D cA x0 hf ad1 ad2 cur cnt fc oc wk fv ov (tb c SS KK VV) (tb (1 - c) SS KK VV) (xs (i + 1)) hiv) gv_L_26 (by decide +kernel) rfl ⟨Nat.le_of_ble_eq_true rfl, Nat.le_of_ble_eq_true rfl⟩ hk hP hD hS hA [0, 1, 2, 3, 4, 5, 6, 7, 8] [9, 10, 11, 12, 13] [5, 6, 7, 8, 9, 10, 11, 12, 13, 0, 1, 2, 3, 4] rfl rfl (fun _ => rfl) ⟨rfl, rfl, rfl⟩ (by decide) rfl rfl hl.1 rfl (Nat.le_of_ble_eq_true rfl) d_L_law_135 ⟨Nat.le_of_ble_eq_true rfl, Nat.le_of_ble_eq_true rfl⟩ (fun r u H locs hp hP hD hS => ?_)
        have hp : r = (ogetA fc (tb c SS KK VV) oc (tb (1 - c) SS KK VV) cur (xs (i + 1))) := hp
        have hp := hp.symm
        subst hp
        obtain ⟨ad3, ad4, fv3, ov3⟩ := u
        have hP : va_P D classes ((wS x0 hf ad3 ad4 cA (fc, (tb c SS KK VV), oc, (tb (1 - c) SS KK VV), cur, cnt, nI (wkc fc (tb c SS KK VV) oc (tb (1 - c) SS KK VV) cur (xs (i + 1)))) fv3 ov3) ++ (wN m0 qd cA th (nI hf) (nI c) mv cq (nI cnt) vi wk SS KK VV ZZ)) H := hP
        have hD : va_D A ((wS x0 hf ad3 ad4 cA (fc, (tb c SS KK VV), oc, (tb (1 - c) SS KK VV), cur, cnt, nI (wkc fc (tb c SS KK VV) oc (tb (1 - c) SS KK VV) cur (xs (i + 1)))) fv3 ov3) ++ (wN m0 qd cA th (nI hf) (nI c) mv cq (nI cnt) vi wk SS KK VV ZZ)) := hD
        refine lv_aload_n hx hb d_L_law_138 rfl (lv_at hl 3 rfl) ?_
        refine lv_aload_n hx hb d_L_law_139 rfl (lv_at hl 1 rfl) ?_
        refine lv_iload_n hx hb d_L_law_140 rfl (lv_at hl 0 rfl) ?_
        refine lv_iconst (v := 1) hx hb d_L_law_141 (by decide) ?_
        refine lv_iadd hx hb d_L_law_142 ?_
        refine x_top (z := (nI (i + 1))) (nI_add i 1) ?_
        refine va_sld hx hb hX hbl hbA hS (vp_in_nI (n := (i + 1)) (by omega) (by omega)) d_L_law_143 ?_
        refine x_top (z := (xs (i + 1))) (congrArg xs (nI_clamp (by omega))) ?_
        refine xV_i (D := D) (k := 1) (ci := 2) (q := ("StepMapModel", F_N, 12)) (wr := (wS x0 hf ad3 ad4 cA (fc, (tb c SS KK VV), oc, (tb (1 - c) SS KK VV), cur, cnt, nI (wkc fc (tb c SS KK VV) oc (tb (1 - c) SS KK VV) cur (xs (i + 1)))) fv3 ov3)) (wb := fun u => ((wS x0 hf ad3 ad4 cA (fc, (tb c SS KK VV), oc, (tb (1 - c) SS KK VV), cur, cnt, nI (wkc fc (tb c SS KK VV) oc (tb (1 - c) SS KK VV) cur (xs (i + 1)))) fv3 ov3) ++ (wU m0 qd cA 0 hf (fc, (tb c SS KK VV), oc, (tb (1 - c) SS KK VV), cur, cnt, nI (wkc fc (tb c SS KK VV) oc (tb (1 - c) SS KK VV) cur (xs (i + 1)))) u))) (rest := [.int (ogetA fc (tb c SS KK VV) oc (tb (1 - c) SS KK VV) cur (xs (i + 1)))]) ⟨hx, hb, hml, hown, ht⟩ (c_N_get l D cA m0 qd th hf c mv cq cnt vi wk SS KK VV ZZ fc oc cur (xs (i + 1)) hmr hiv) gv_L_30 (by decide +kernel) rfl ⟨Nat.le_of_ble_eq_true rfl, Nat.le_of_ble_eq_true rfl⟩ hk hP hD hS hA [9, 10, 11, 12, 13] [0, 1, 2, 3, 4, 5, 6, 7, 8] [0, 1, 2, 3, 4, 5, 6, 7, 8, 9, 10, 11, 12, 13] rfl rfl (fun _ => rfl) ⟨rfl, rfl, rfl⟩ (by decide) rfl rfl hl.1 rfl (Nat.le_of_ble_eq_true rfl) d_L_law_144 ⟨Nat.le_of_ble_eq_true rfl, Nat.le_of_ble_eq_true rfl⟩ (fun r u H locs hp hP hD hS => ?_)
        obtain ⟨hp, hM⟩ := hp
        have hp : r = (ogetA fc (tb c SS KK VV) oc (tb (1 - c) SS KK VV) cur (xs (i + 1))) := hp
        have hp := hp.symm
        subst hp
        refine lv_icmp_eq (tgt := 286) hx hb d_L_law_147 (by decide) (fun _ => ?_) (fun c9 => absurd (rfl) c9)
        exact next (fc, (tb c SS KK VV), oc, (tb (1 - c) SS KK VV), cur, cnt, nI (wkc fc (tb c SS KK VV) oc (tb (1 - c) SS KK VV) cur (xs (i + 1)))) u ad3 ad4 fv3 ov3 0 H locs hiv hM hP hD hS
      · skip
        refine lv_tableIn (off := 110) (tgt := 152) hx hb d_L_law_42 (by decide) (by decide) (by decide) (by decide) ?_
        refine lv_aload_n hx hb d_L_law_152 rfl (lv_at hl 2 rfl) ?_
        refine lv_aload_n hx hb d_L_law_153 rfl (lv_at hl 1 rfl) ?_
        refine lv_iload_n hx hb d_L_law_154 rfl (lv_at hl 0 rfl) ?_
        refine lv_iconst (v := 1) hx hb d_L_law_155 (by decide) ?_
        refine lv_iadd hx hb d_L_law_156 ?_
        refine x_top (z := (nI (i + 1))) (nI_add i 1) ?_
        refine va_sld hx hb hX hbl hbA hS (vp_in_nI (n := (i + 1)) (by omega) (by omega)) d_L_law_157 ?_
        refine x_top (z := (xs (i + 1))) (congrArg xs (nI_clamp (by omega))) ?_
        refine xV_i (D := D) (k := 1) (ci := 0) (q := ("StepMap", F_M, 6)) (wr := (wN m0 qd cA th (nI hf) (nI c) mv cq (nI cnt) vi wk SS KK VV ZZ)) (wb := fun u => ((wS x0 hf u.1 u.2.1 cA (fc, (tb c SS KK VV), oc, (tb (1 - c) SS KK VV), cur, cnt, nI (wkc fc (tb c SS KK VV) oc (tb (1 - c) SS KK VV) cur (xs (i + 1)))) u.2.2.1 u.2.2.2) ++ (wN m0 qd cA th (nI hf) (nI c) mv cq (nI cnt) vi wk SS KK VV ZZ))) (rest := []) ⟨hx, hb, hml, hown, ht⟩ (c_M_has l D cA x0 hf ad1 ad2 cur cnt fc oc wk fv ov (tb c SS KK VV) (tb (1 - c) SS KK VV) (xs (i + 1)) hiv) gv_L_31 (by decide +kernel) rfl ⟨Nat.le_of_ble_eq_true rfl, Nat.le_of_ble_eq_true rfl⟩ hk hP hD hS hA [0, 1, 2, 3, 4, 5, 6, 7, 8] [9, 10, 11, 12, 13] [5, 6, 7, 8, 9, 10, 11, 12, 13, 0, 1, 2, 3, 4] rfl rfl (fun _ => rfl) ⟨rfl, rfl, rfl⟩ (by decide) rfl rfl hl.1 rfl (Nat.le_of_ble_eq_true rfl) d_L_law_158 ⟨Nat.le_of_ble_eq_true rfl, Nat.le_of_ble_eq_true rfl⟩ (fun r u H locs hp hP hD hS => ?_)
        have hp : r = (oremA fc (tb c SS KK VV) oc (tb (1 - c) SS KK VV) cur (xs (i + 1))) := hp
        have hp := hp.symm
        subst hp
        obtain ⟨ad3, ad4, fv3, ov3⟩ := u
        have hP : va_P D classes ((wS x0 hf ad3 ad4 cA (fc, (tb c SS KK VV), oc, (tb (1 - c) SS KK VV), cur, cnt, nI (wkc fc (tb c SS KK VV) oc (tb (1 - c) SS KK VV) cur (xs (i + 1)))) fv3 ov3) ++ (wN m0 qd cA th (nI hf) (nI c) mv cq (nI cnt) vi wk SS KK VV ZZ)) H := hP
        have hD : va_D A ((wS x0 hf ad3 ad4 cA (fc, (tb c SS KK VV), oc, (tb (1 - c) SS KK VV), cur, cnt, nI (wkc fc (tb c SS KK VV) oc (tb (1 - c) SS KK VV) cur (xs (i + 1)))) fv3 ov3) ++ (wN m0 qd cA th (nI hf) (nI c) mv cq (nI cnt) vi wk SS KK VV ZZ)) := hD
        refine lv_aload_n hx hb d_L_law_161 rfl (lv_at hl 3 rfl) ?_
        refine lv_aload_n hx hb d_L_law_162 rfl (lv_at hl 1 rfl) ?_
        refine lv_iload_n hx hb d_L_law_163 rfl (lv_at hl 0 rfl) ?_
        refine lv_iconst (v := 1) hx hb d_L_law_164 (by decide) ?_
        refine lv_iadd hx hb d_L_law_165 ?_
        refine x_top (z := (nI (i + 1))) (nI_add i 1) ?_
        refine va_sld hx hb hX hbl hbA hS (vp_in_nI (n := (i + 1)) (by omega) (by omega)) d_L_law_166 ?_
        refine x_top (z := (xs (i + 1))) (congrArg xs (nI_clamp (by omega))) ?_
        refine xV_i (D := D) (k := 1) (ci := 2) (q := ("StepMapModel", F_N, 12)) (wr := (wS x0 hf ad3 ad4 cA (fc, (tb c SS KK VV), oc, (tb (1 - c) SS KK VV), cur, cnt, nI (wkc fc (tb c SS KK VV) oc (tb (1 - c) SS KK VV) cur (xs (i + 1)))) fv3 ov3)) (wb := fun u => ((wS x0 hf ad3 ad4 cA (fc, (tb c SS KK VV), oc, (tb (1 - c) SS KK VV), cur, cnt, nI (wkc fc (tb c SS KK VV) oc (tb (1 - c) SS KK VV) cur (xs (i + 1)))) fv3 ov3) ++ (wU m0 qd cA 0 hf (fc, (tb c SS KK VV), oc, (tb (1 - c) SS KK VV), cur, cnt, nI (wkc fc (tb c SS KK VV) oc (tb (1 - c) SS KK VV) cur (xs (i + 1)))) u))) (rest := [.int (oremA fc (tb c SS KK VV) oc (tb (1 - c) SS KK VV) cur (xs (i + 1)))]) ⟨hx, hb, hml, hown, ht⟩ (c_N_has l D cA m0 qd th hf c mv cq cnt vi wk SS KK VV ZZ fc oc cur (xs (i + 1)) hmr hiv) gv_L_35 (by decide +kernel) rfl ⟨Nat.le_of_ble_eq_true rfl, Nat.le_of_ble_eq_true rfl⟩ hk hP hD hS hA [9, 10, 11, 12, 13] [0, 1, 2, 3, 4, 5, 6, 7, 8] [0, 1, 2, 3, 4, 5, 6, 7, 8, 9, 10, 11, 12, 13] rfl rfl (fun _ => rfl) ⟨rfl, rfl, rfl⟩ (by decide) rfl rfl hl.1 rfl (Nat.le_of_ble_eq_true rfl) d_L_law_167 ⟨Nat.le_of_ble_eq_true rfl, Nat.le_of_ble_eq_true rfl⟩ (fun r u H locs hp hP hD hS => ?_)
        obtain ⟨hp, hM⟩ := hp
        have hp : r = (oremA fc (tb c SS KK VV) oc (tb (1 - c) SS KK VV) cur (xs (i + 1))) := hp
        have hp := hp.symm
        subst hp
        refine lv_icmp_eq (tgt := 286) hx hb d_L_law_170 (by decide) (fun _ => ?_) (fun c9 => absurd (rfl) c9)
        exact next (fc, (tb c SS KK VV), oc, (tb (1 - c) SS KK VV), cur, cnt, nI (wkc fc (tb c SS KK VV) oc (tb (1 - c) SS KK VV) cur (xs (i + 1)))) u ad3 ad4 fv3 ov3 0 H locs hiv hM hP hD hS
      · skip
        refine lv_tableIn (off := 133) (tgt := 175) hx hb d_L_law_42 (by decide) (by decide) (by decide) (by decide) ?_
        refine lv_aload_n hx hb d_L_law_175 rfl (lv_at hl 2 rfl) ?_
        refine lv_aload_n hx hb d_L_law_176 rfl (lv_at hl 1 rfl) ?_
        refine lv_iload_n hx hb d_L_law_177 rfl (lv_at hl 0 rfl) ?_
        refine lv_iconst (v := 1) hx hb d_L_law_178 (by decide) ?_
        refine lv_iadd hx hb d_L_law_179 ?_
        refine x_top (z := (nI (i + 1))) (nI_add i 1) ?_
        refine va_sld hx hb hX hbl hbA hS (vp_in_nI (n := (i + 1)) (by omega) (by omega)) d_L_law_180 ?_
        refine x_top (z := (xs (i + 1))) (congrArg xs (nI_clamp (by omega))) ?_
        refine xV_i (D := D) (k := 1) (ci := 0) (q := ("StepMap", F_M, 6)) (wr := (wN m0 qd cA th (nI hf) (nI c) mv cq (nI cnt) vi wk SS KK VV ZZ)) (wb := fun u => ((wS x0 hf u.1 u.2.1 cA (orem fc (tb c SS KK VV) oc (tb (1 - c) SS KK VV) cur cnt (xs (i + 1))) u.2.2.1 u.2.2.2) ++ (wN m0 qd cA th (nI hf) (nI c) mv cq (nI cnt) vi wk SS KK VV ZZ))) (rest := []) ⟨hx, hb, hml, hown, ht⟩ (c_M_remove l D cA x0 hf ad1 ad2 cur cnt fc oc wk fv ov (tb c SS KK VV) (tb (1 - c) SS KK VV) (xs (i + 1)) hiv) gv_L_36 (by decide +kernel) rfl ⟨Nat.le_of_ble_eq_true rfl, Nat.le_of_ble_eq_true rfl⟩ hk hP hD hS hA [0, 1, 2, 3, 4, 5, 6, 7, 8] [9, 10, 11, 12, 13] [5, 6, 7, 8, 9, 10, 11, 12, 13, 0, 1, 2, 3, 4] rfl rfl (fun _ => rfl) ⟨rfl, rfl, rfl⟩ (by decide) rfl rfl hl.1 rfl (Nat.le_of_ble_eq_true rfl) d_L_law_181 ⟨Nat.le_of_ble_eq_true rfl, Nat.le_of_ble_eq_true rfl⟩ (fun r u H locs hp hP hD hS => ?_)
        have hp : r = (oremA fc (tb c SS KK VV) oc (tb (1 - c) SS KK VV) cur (xs (i + 1))) := hp
        have hp := hp.symm
        subst hp
        obtain ⟨ad3, ad4, fv3, ov3⟩ := u
        have hP : va_P D classes ((wS x0 hf ad3 ad4 cA (orem fc (tb c SS KK VV) oc (tb (1 - c) SS KK VV) cur cnt (xs (i + 1))) fv3 ov3) ++ (wN m0 qd cA th (nI hf) (nI c) mv cq (nI cnt) vi wk SS KK VV ZZ)) H := hP
        have hD : va_D A ((wS x0 hf ad3 ad4 cA (orem fc (tb c SS KK VV) oc (tb (1 - c) SS KK VV) cur cnt (xs (i + 1))) fv3 ov3) ++ (wN m0 qd cA th (nI hf) (nI c) mv cq (nI cnt) vi wk SS KK VV ZZ)) := hD
        refine lv_aload_n hx hb d_L_law_184 rfl (lv_at hl 3 rfl) ?_
        refine lv_aload_n hx hb d_L_law_185 rfl (lv_at hl 1 rfl) ?_
        refine lv_iload_n hx hb d_L_law_186 rfl (lv_at hl 0 rfl) ?_
        refine lv_iconst (v := 1) hx hb d_L_law_187 (by decide) ?_
        refine lv_iadd hx hb d_L_law_188 ?_
        refine x_top (z := (nI (i + 1))) (nI_add i 1) ?_
        refine va_sld hx hb hX hbl hbA hS (vp_in_nI (n := (i + 1)) (by omega) (by omega)) d_L_law_189 ?_
        refine x_top (z := (xs (i + 1))) (congrArg xs (nI_clamp (by omega))) ?_
        refine xV_i (D := D) (k := 1) (ci := 2) (q := ("StepMapModel", F_N, 12)) (wr := (wS x0 hf ad3 ad4 cA (orem fc (tb c SS KK VV) oc (tb (1 - c) SS KK VV) cur cnt (xs (i + 1))) fv3 ov3)) (wb := fun u => ((wS x0 hf ad3 ad4 cA (orem fc (tb c SS KK VV) oc (tb (1 - c) SS KK VV) cur cnt (xs (i + 1))) fv3 ov3) ++ (wU m0 qd cA 0 hf (orem fc (tb c SS KK VV) oc (tb (1 - c) SS KK VV) cur cnt (xs (i + 1))) u))) (rest := [.int (oremA fc (tb c SS KK VV) oc (tb (1 - c) SS KK VV) cur (xs (i + 1)))]) ⟨hx, hb, hml, hown, ht⟩ (c_N_remove l D cA m0 qd th hf c mv cq cnt vi wk SS KK VV ZZ fc oc cur (xs (i + 1)) hmr hiv) gv_L_39 (by decide +kernel) rfl ⟨Nat.le_of_ble_eq_true rfl, Nat.le_of_ble_eq_true rfl⟩ hk hP hD hS hA [9, 10, 11, 12, 13] [0, 1, 2, 3, 4, 5, 6, 7, 8] [0, 1, 2, 3, 4, 5, 6, 7, 8, 9, 10, 11, 12, 13] rfl rfl (fun _ => rfl) ⟨rfl, rfl, rfl⟩ (by decide) rfl rfl hl.1 rfl (Nat.le_of_ble_eq_true rfl) d_L_law_190 ⟨Nat.le_of_ble_eq_true rfl, Nat.le_of_ble_eq_true rfl⟩ (fun r u H locs hp hP hD hS => ?_)
        obtain ⟨hp, hM⟩ := hp
        have hp : r = (oremA fc (tb c SS KK VV) oc (tb (1 - c) SS KK VV) cur (xs (i + 1))) := hp
        have hp := hp.symm
        subst hp
        refine lv_icmp_eq (tgt := 286) hx hb d_L_law_193 (by decide) (fun _ => ?_) (fun c9 => absurd (rfl) c9)
        exact next (orem fc (tb c SS KK VV) oc (tb (1 - c) SS KK VV) cur cnt (xs (i + 1))) u ad3 ad4 fv3 ov3 0 H locs (orem_Iv hiv) hM hP hD hS
      · skip
        refine lv_tableIn (off := 156) (tgt := 198) hx hb d_L_law_42 (by decide) (by decide) (by decide) (by decide) ?_
        refine lv_aload_n hx hb d_L_law_198 rfl (lv_at hl 2 rfl) ?_
        refine xV_i (D := D) (k := 0) (ci := 0) (q := ("StepMap", F_M, 6)) (wr := (wN m0 qd cA th (nI hf) (nI c) mv cq (nI cnt) vi wk SS KK VV ZZ)) (wb := fun u => ((wM x0 hf ad1.1 ad2.1 ad1 ad2 cA (nI cur) (nI cnt) wk (nI fc) fv (tb c SS KK VV) (nI oc) ov (tb (1 - c) SS KK VV)) ++ (wN m0 qd cA th (nI hf) (nI c) mv cq (nI cnt) vi wk SS KK VV ZZ))) (rest := []) ⟨hx, hb, hml, hown, ht⟩ (c_M_size l D cA x0 hf ad1 ad2 cur cnt fc oc wk fv ov (tb c SS KK VV) (tb (1 - c) SS KK VV)) gv_L_40 (by decide +kernel) rfl ⟨Nat.le_of_ble_eq_true rfl, Nat.le_of_ble_eq_true rfl⟩ hk hP hD hS hA [0, 1, 2, 3, 4, 5, 6, 7, 8] [9, 10, 11, 12, 13] [5, 6, 7, 8, 9, 10, 11, 12, 13, 0, 1, 2, 3, 4] rfl rfl (fun _ => rfl) ⟨rfl, rfl, rfl⟩ (by decide) rfl rfl hl.1 rfl (Nat.le_of_ble_eq_true rfl) d_L_law_199 ⟨Nat.le_of_ble_eq_true rfl, Nat.le_of_ble_eq_true rfl⟩ (fun r u H locs hp hP hD hS => ?_)
        have hp : r = (nI cnt) := hp
        have hp := hp.symm
        subst hp
        have hP : va_P D classes ((wM x0 hf ad1.1 ad2.1 ad1 ad2 cA (nI cur) (nI cnt) wk (nI fc) fv (tb c SS KK VV) (nI oc) ov (tb (1 - c) SS KK VV)) ++ (wN m0 qd cA th (nI hf) (nI c) mv cq (nI cnt) vi wk SS KK VV ZZ)) H := hP
        have hD : va_D A ((wM x0 hf ad1.1 ad2.1 ad1 ad2 cA (nI cur) (nI cnt) wk (nI fc) fv (tb c SS KK VV) (nI oc) ov (tb (1 - c) SS KK VV)) ++ (wN m0 qd cA th (nI hf) (nI c) mv cq (nI cnt) vi wk SS KK VV ZZ)) := hD
        refine lv_aload_n hx hb d_L_law_202 rfl (lv_at hl 3 rfl) ?_
        refine xV_i (D := D) (k := 0) (ci := 2) (q := ("StepMapModel", F_N, 12)) (wr := (wM x0 hf ad1.1 ad2.1 ad1 ad2 cA (nI cur) (nI cnt) wk (nI fc) fv (tb c SS KK VV) (nI oc) ov (tb (1 - c) SS KK VV))) (wb := fun u => ((wM x0 hf ad1.1 ad2.1 ad1 ad2 cA (nI cur) (nI cnt) wk (nI fc) fv (tb c SS KK VV) (nI oc) ov (tb (1 - c) SS KK VV)) ++ (wN m0 qd cA 0 (nI hf) (nI c) mv cq (nI cnt) vi wk SS KK VV ZZ))) (rest := [.int (nI cnt)]) ⟨hx, hb, hml, hown, ht⟩ (c_N_size l D cA m0 qd th (nI hf) (nI c) mv cq (nI cnt) vi wk SS KK VV ZZ) gv_L_44 (by decide +kernel) rfl ⟨Nat.le_of_ble_eq_true rfl, Nat.le_of_ble_eq_true rfl⟩ hk hP hD hS hA [9, 10, 11, 12, 13] [0, 1, 2, 3, 4, 5, 6, 7, 8] [0, 1, 2, 3, 4, 5, 6, 7, 8, 9, 10, 11, 12, 13] rfl rfl (fun _ => rfl) ⟨rfl, rfl, rfl⟩ (by decide) rfl rfl hl.1 rfl (Nat.le_of_ble_eq_true rfl) d_L_law_203 ⟨Nat.le_of_ble_eq_true rfl, Nat.le_of_ble_eq_true rfl⟩ (fun r u H locs hp hP hD hS => ?_)
        have hp : r = (nI cnt) := hp
        have hp := hp.symm
        subst hp
        refine lv_icmp_eq (tgt := 286) hx hb d_L_law_206 (by decide) (fun _ => ?_) (fun c9 => absurd (rfl) c9)
        exact next (fc, (tb c SS KK VV), oc, (tb (1 - c) SS KK VV), cur, cnt, wk) (c, mv, cq, vi, SS, KK, VV, ZZ) ad1 ad2 fv ov 0 H locs hiv hmr hP hD hS
      · skip
        refine lv_tableIn (off := 169) (tgt := 211) hx hb d_L_law_42 (by decide) (by decide) (by decide) (by decide) ?_
        refine lv_aload_n hx hb d_L_law_211 rfl (lv_at hl 2 rfl) ?_
        refine xV_i (D := D) (k := 0) (ci := 0) (q := ("StepMap", F_M, 6)) (wr := (wN m0 qd cA th (nI hf) (nI c) mv cq (nI cnt) vi wk SS KK VV ZZ)) (wb := fun u => ((wM x0 hf ad1.1 ad2.1 ad1 ad2 cA (nI cur) (nI cnt) wk (nI fc) fv (tb c SS KK VV) (nI oc) ov (tb (1 - c) SS KK VV)) ++ (wN m0 qd cA th (nI hf) (nI c) mv cq (nI cnt) vi wk SS KK VV ZZ))) (rest := []) ⟨hx, hb, hml, hown, ht⟩ (c_M_capacity l D cA x0 hf ad1 ad2 cur cnt fc oc wk fv ov (tb c SS KK VV) (tb (1 - c) SS KK VV)) gv_L_45 (by decide +kernel) rfl ⟨Nat.le_of_ble_eq_true rfl, Nat.le_of_ble_eq_true rfl⟩ hk hP hD hS hA [0, 1, 2, 3, 4, 5, 6, 7, 8] [9, 10, 11, 12, 13] [5, 6, 7, 8, 9, 10, 11, 12, 13, 0, 1, 2, 3, 4] rfl rfl (fun _ => rfl) ⟨rfl, rfl, rfl⟩ (by decide) rfl rfl hl.1 rfl (Nat.le_of_ble_eq_true rfl) d_L_law_212 ⟨Nat.le_of_ble_eq_true rfl, Nat.le_of_ble_eq_true rfl⟩ (fun r u H locs hp hP hD hS => ?_)
        have hp : r = (nI fc) := hp
        have hp := hp.symm
        subst hp
        have hP : va_P D classes ((wM x0 hf ad1.1 ad2.1 ad1 ad2 cA (nI cur) (nI cnt) wk (nI fc) fv (tb c SS KK VV) (nI oc) ov (tb (1 - c) SS KK VV)) ++ (wN m0 qd cA th (nI hf) (nI c) mv cq (nI cnt) vi wk SS KK VV ZZ)) H := hP
        have hD : va_D A ((wM x0 hf ad1.1 ad2.1 ad1 ad2 cA (nI cur) (nI cnt) wk (nI fc) fv (tb c SS KK VV) (nI oc) ov (tb (1 - c) SS KK VV)) ++ (wN m0 qd cA th (nI hf) (nI c) mv cq (nI cnt) vi wk SS KK VV ZZ)) := hD
        refine lv_aload_n hx hb d_L_law_215 rfl (lv_at hl 3 rfl) ?_
        refine xV_i (D := D) (k := 0) (ci := 2) (q := ("StepMapModel", F_N, 12)) (wr := (wM x0 hf ad1.1 ad2.1 ad1 ad2 cA (nI cur) (nI cnt) wk (nI fc) fv (tb c SS KK VV) (nI oc) ov (tb (1 - c) SS KK VV))) (wb := fun u => ((wM x0 hf ad1.1 ad2.1 ad1 ad2 cA (nI cur) (nI cnt) wk (nI fc) fv (tb c SS KK VV) (nI oc) ov (tb (1 - c) SS KK VV)) ++ (wN m0 qd cA 0 (nI hf) (nI c) mv cq (nI cnt) vi wk SS KK VV ZZ))) (rest := [.int (nI fc)]) ⟨hx, hb, hml, hown, ht⟩ (c_N_capacity l D cA m0 qd th (nI hf) c mv cq (nI cnt) vi wk SS KK VV ZZ hc2) gv_L_48 (by decide +kernel) rfl ⟨Nat.le_of_ble_eq_true rfl, Nat.le_of_ble_eq_true rfl⟩ hk hP hD hS hA [9, 10, 11, 12, 13] [0, 1, 2, 3, 4, 5, 6, 7, 8] [0, 1, 2, 3, 4, 5, 6, 7, 8, 9, 10, 11, 12, 13] rfl rfl (fun _ => rfl) ⟨rfl, rfl, rfl⟩ (by decide) rfl rfl hl.1 rfl (Nat.le_of_ble_eq_true rfl) d_L_law_216 ⟨Nat.le_of_ble_eq_true rfl, Nat.le_of_ble_eq_true rfl⟩ (fun r u H locs hp hP hD hS => ?_)
        have hp : r = (ZZ c) := hp
        have hp := hp.symm
        subst hp
        refine x_top (z := (nI fc)) (hz) ?_
        refine lv_icmp_eq (tgt := 286) hx hb d_L_law_219 (by decide) (fun _ => ?_) (fun c9 => absurd (rfl) c9)
        exact next (fc, (tb c SS KK VV), oc, (tb (1 - c) SS KK VV), cur, cnt, wk) (c, mv, cq, vi, SS, KK, VV, ZZ) ad1 ad2 fv ov 0 H locs hiv hmr hP hD hS
      · skip
        refine lv_tableIn (off := 182) (tgt := 224) hx hb d_L_law_42 (by decide) (by decide) (by decide) (by decide) ?_
        refine lv_aload_n hx hb d_L_law_224 rfl (lv_at hl 2 rfl) ?_
        refine xV_i (D := D) (k := 0) (ci := 0) (q := ("StepMap", F_M, 6)) (wr := (wN m0 qd cA th (nI hf) (nI c) mv cq (nI cnt) vi wk SS KK VV ZZ)) (wb := fun u => ((wM x0 hf ad1.1 ad2.1 ad1 ad2 cA (nI cur) (nI cnt) wk (nI fc) fv (tb c SS KK VV) (nI oc) ov (tb (1 - c) SS KK VV)) ++ (wN m0 qd cA th (nI hf) (nI c) mv cq (nI cnt) vi wk SS KK VV ZZ))) (rest := []) ⟨hx, hb, hml, hown, ht⟩ (c_M_migrating l D cA x0 hf ad1 ad2 cur cnt fc oc wk fv ov (tb c SS KK VV) (tb (1 - c) SS KK VV) hcu (by omega)) gv_L_49 (by decide +kernel) rfl ⟨Nat.le_of_ble_eq_true rfl, Nat.le_of_ble_eq_true rfl⟩ hk hP hD hS hA [0, 1, 2, 3, 4, 5, 6, 7, 8] [9, 10, 11, 12, 13] [5, 6, 7, 8, 9, 10, 11, 12, 13, 0, 1, 2, 3, 4] rfl rfl (fun _ => rfl) ⟨rfl, rfl, rfl⟩ (by decide) rfl rfl hl.1 rfl (Nat.le_of_ble_eq_true rfl) d_L_law_225 ⟨Nat.le_of_ble_eq_true rfl, Nat.le_of_ble_eq_true rfl⟩ (fun r u H locs hp hP hD hS => ?_)
        have hp : r = (if cur < oc then 1 else 0) := hp
        have hp := hp.symm
        subst hp
        have hP : va_P D classes ((wM x0 hf ad1.1 ad2.1 ad1 ad2 cA (nI cur) (nI cnt) wk (nI fc) fv (tb c SS KK VV) (nI oc) ov (tb (1 - c) SS KK VV)) ++ (wN m0 qd cA th (nI hf) (nI c) mv cq (nI cnt) vi wk SS KK VV ZZ)) H := hP
        have hD : va_D A ((wM x0 hf ad1.1 ad2.1 ad1 ad2 cA (nI cur) (nI cnt) wk (nI fc) fv (tb c SS KK VV) (nI oc) ov (tb (1 - c) SS KK VV)) ++ (wN m0 qd cA th (nI hf) (nI c) mv cq (nI cnt) vi wk SS KK VV ZZ)) := hD
        refine lv_aload_n hx hb d_L_law_228 rfl (lv_at hl 3 rfl) ?_
        refine xV_i (D := D) (k := 0) (ci := 2) (q := ("StepMapModel", F_N, 12)) (wr := (wM x0 hf ad1.1 ad2.1 ad1 ad2 cA (nI cur) (nI cnt) wk (nI fc) fv (tb c SS KK VV) (nI oc) ov (tb (1 - c) SS KK VV))) (wb := fun u => ((wM x0 hf ad1.1 ad2.1 ad1 ad2 cA (nI cur) (nI cnt) wk (nI fc) fv (tb c SS KK VV) (nI oc) ov (tb (1 - c) SS KK VV)) ++ (wN m0 qd cA 0 (nI hf) (nI c) mv cq (nI cnt) vi wk SS KK VV ZZ))) (rest := [.int (if cur < oc then 1 else 0)]) ⟨hx, hb, hml, hown, ht⟩ (c_N_migrating l D cA m0 qd th (nI hf) (nI c) mv cq (nI cnt) vi wk SS KK VV ZZ (by rcases hmo with z | z; exact Or.inr z.2.1; exact Or.inl z.2)) gv_L_53 (by decide +kernel) rfl ⟨Nat.le_of_ble_eq_true rfl, Nat.le_of_ble_eq_true rfl⟩ hk hP hD hS hA [9, 10, 11, 12, 13] [0, 1, 2, 3, 4, 5, 6, 7, 8] [0, 1, 2, 3, 4, 5, 6, 7, 8, 9, 10, 11, 12, 13] rfl rfl (fun _ => rfl) ⟨rfl, rfl, rfl⟩ (by decide) rfl rfl hl.1 rfl (Nat.le_of_ble_eq_true rfl) d_L_law_229 ⟨Nat.le_of_ble_eq_true rfl, Nat.le_of_ble_eq_true rfl⟩ (fun r u H locs hp hP hD hS => ?_)
        have hp : r = mv := hp
        have hp := hp.symm
        subst hp
        refine x_top (z := (if cur < oc then 1 else 0)) (by rcases hmo with z | z; rw [if_pos z.1, z.2.1]; rw [if_neg z.1, z.2]) ?_
        refine lv_icmp_eq (tgt := 286) hx hb d_L_law_232 (by decide) (fun _ => ?_) (fun c9 => absurd (rfl) c9)
        exact next (fc, (tb c SS KK VV), oc, (tb (1 - c) SS KK VV), cur, cnt, wk) (c, mv, cq, vi, SS, KK, VV, ZZ) ad1 ad2 fv ov 0 H locs hiv hmr hP hD hS
      · skip
        refine lv_tableIn (off := 195) (tgt := 237) hx hb d_L_law_42 (by decide) (by decide) (by decide) (by decide) ?_
        refine lv_aload_n hx hb d_L_law_237 rfl (lv_at hl 2 rfl) ?_
        refine xV_i (D := D) (k := 0) (ci := 0) (q := ("StepMap", F_M, 6)) (wr := (wN m0 qd cA th (nI hf) (nI c) mv cq (nI cnt) vi wk SS KK VV ZZ)) (wb := fun u => ((wM x0 hf ad1.1 ad2.1 ad1 ad2 cA (nI cur) (nI cnt) wk (nI fc) fv (tb c SS KK VV) (nI oc) ov (tb (1 - c) SS KK VV)) ++ (wN m0 qd cA th (nI hf) (nI c) mv cq (nI cnt) vi wk SS KK VV ZZ))) (rest := []) ⟨hx, hb, hml, hown, ht⟩ (c_M_lastWork l D cA x0 hf ad1 ad2 cur cnt fc oc wk fv ov (tb c SS KK VV) (tb (1 - c) SS KK VV)) gv_L_54 (by decide +kernel) rfl ⟨Nat.le_of_ble_eq_true rfl, Nat.le_of_ble_eq_true rfl⟩ hk hP hD hS hA [0, 1, 2, 3, 4, 5, 6, 7, 8] [9, 10, 11, 12, 13] [5, 6, 7, 8, 9, 10, 11, 12, 13, 0, 1, 2, 3, 4] rfl rfl (fun _ => rfl) ⟨rfl, rfl, rfl⟩ (by decide) rfl rfl hl.1 rfl (Nat.le_of_ble_eq_true rfl) d_L_law_238 ⟨Nat.le_of_ble_eq_true rfl, Nat.le_of_ble_eq_true rfl⟩ (fun r u H locs hp hP hD hS => ?_)
        have hp : r = wk := hp
        have hp := hp.symm
        subst hp
        have hP : va_P D classes ((wM x0 hf ad1.1 ad2.1 ad1 ad2 cA (nI cur) (nI cnt) wk (nI fc) fv (tb c SS KK VV) (nI oc) ov (tb (1 - c) SS KK VV)) ++ (wN m0 qd cA th (nI hf) (nI c) mv cq (nI cnt) vi wk SS KK VV ZZ)) H := hP
        have hD : va_D A ((wM x0 hf ad1.1 ad2.1 ad1 ad2 cA (nI cur) (nI cnt) wk (nI fc) fv (tb c SS KK VV) (nI oc) ov (tb (1 - c) SS KK VV)) ++ (wN m0 qd cA th (nI hf) (nI c) mv cq (nI cnt) vi wk SS KK VV ZZ)) := hD
        refine lv_aload_n hx hb d_L_law_241 rfl (lv_at hl 3 rfl) ?_
        refine xV_i (D := D) (k := 0) (ci := 2) (q := ("StepMapModel", F_N, 12)) (wr := (wM x0 hf ad1.1 ad2.1 ad1 ad2 cA (nI cur) (nI cnt) wk (nI fc) fv (tb c SS KK VV) (nI oc) ov (tb (1 - c) SS KK VV))) (wb := fun u => ((wM x0 hf ad1.1 ad2.1 ad1 ad2 cA (nI cur) (nI cnt) wk (nI fc) fv (tb c SS KK VV) (nI oc) ov (tb (1 - c) SS KK VV)) ++ (wN m0 qd cA 0 (nI hf) (nI c) mv cq (nI cnt) vi wk SS KK VV ZZ))) (rest := [.int wk]) ⟨hx, hb, hml, hown, ht⟩ (c_N_lastWork l D cA m0 qd th (nI hf) (nI c) mv cq (nI cnt) vi wk SS KK VV ZZ) gv_L_57 (by decide +kernel) rfl ⟨Nat.le_of_ble_eq_true rfl, Nat.le_of_ble_eq_true rfl⟩ hk hP hD hS hA [9, 10, 11, 12, 13] [0, 1, 2, 3, 4, 5, 6, 7, 8] [0, 1, 2, 3, 4, 5, 6, 7, 8, 9, 10, 11, 12, 13] rfl rfl (fun _ => rfl) ⟨rfl, rfl, rfl⟩ (by decide) rfl rfl hl.1 rfl (Nat.le_of_ble_eq_true rfl) d_L_law_242 ⟨Nat.le_of_ble_eq_true rfl, Nat.le_of_ble_eq_true rfl⟩ (fun r u H locs hp hP hD hS => ?_)
        have hp : r = wk := hp
        have hp := hp.symm
        subst hp
        refine lv_icmp_eq (tgt := 286) hx hb d_L_law_245 (by decide) (fun _ => ?_) (fun c9 => absurd (rfl) c9)
        exact next (fc, (tb c SS KK VV), oc, (tb (1 - c) SS KK VV), cur, cnt, wk) (c, mv, cq, vi, SS, KK, VV, ZZ) ad1 ad2 fv ov 0 H locs hiv hmr hP hD hS
      · skip
        refine lv_tableIn (off := 208) (tgt := 250) hx hb d_L_law_42 (by decide) (by decide) (by decide) (by decide) ?_
        refine lv_aload_n hx hb d_L_law_250 rfl (lv_at hl 2 rfl) ?_
        refine lv_aload_n hx hb d_L_law_251 rfl (lv_at hl 1 rfl) ?_
        refine lv_iload_n hx hb d_L_law_252 rfl (lv_at hl 0 rfl) ?_
        refine lv_iconst (v := 1) hx hb d_L_law_253 (by decide) ?_
        refine lv_iadd hx hb d_L_law_254 ?_
        refine x_top (z := (nI (i + 1))) (nI_add i 1) ?_
        refine va_sld hx hb hX hbl hbA hS (vp_in_nI (n := (i + 1)) (by omega) (by omega)) d_L_law_255 ?_
        refine x_top (z := (xs (i + 1))) (congrArg xs (nI_clamp (by omega))) ?_
        refine xV_i (D := D) (k := 1) (ci := 0) (q := ("StepMap", F_M, 6)) (wr := (wN m0 qd cA th (nI hf) (nI c) mv cq (nI cnt) vi wk SS KK VV ZZ)) (wb := fun u => ((wS x0 hf u.1 u.2.1 cA (fc, (tb c SS KK VV), oc, (tb (1 - c) SS KK VV), cur, cnt, wk) u.2.2.1 u.2.2.2) ++ (wN m0 qd cA th (nI hf) (nI c) mv cq (nI cnt) vi wk SS KK VV ZZ))) (rest := []) ⟨hx, hb, hml, hown, ht⟩ (c_M_slot l D cA x0 hf ad1 ad2 cur cnt fc oc wk fv ov (tb c SS KK VV) (tb (1 - c) SS KK VV) (xs (i + 1)) hiv) gv_L_58 (by decide +kernel) rfl ⟨Nat.le_of_ble_eq_true rfl, Nat.le_of_ble_eq_true rfl⟩ hk hP hD hS hA [0, 1, 2, 3, 4, 5, 6, 7, 8] [9, 10, 11, 12, 13] [5, 6, 7, 8, 9, 10, 11, 12, 13, 0, 1, 2, 3, 4] rfl rfl (fun _ => rfl) ⟨rfl, rfl, rfl⟩ (by decide) rfl rfl hl.1 rfl (Nat.le_of_ble_eq_true rfl) d_L_law_256 ⟨Nat.le_of_ble_eq_true rfl, Nat.le_of_ble_eq_true rfl⟩ (fun r u H locs hp hP hD hS => ?_)
        have hp : r = (oslotA fc (tb c SS KK VV) oc (tb (1 - c) SS KK VV) cur (xs (i + 1))) := hp
        have hp := hp.symm
        subst hp
        obtain ⟨ad3, ad4, fv3, ov3⟩ := u
        have hP : va_P D classes ((wS x0 hf ad3 ad4 cA (fc, (tb c SS KK VV), oc, (tb (1 - c) SS KK VV), cur, cnt, wk) fv3 ov3) ++ (wN m0 qd cA th (nI hf) (nI c) mv cq (nI cnt) vi wk SS KK VV ZZ)) H := hP
        have hD : va_D A ((wS x0 hf ad3 ad4 cA (fc, (tb c SS KK VV), oc, (tb (1 - c) SS KK VV), cur, cnt, wk) fv3 ov3) ++ (wN m0 qd cA th (nI hf) (nI c) mv cq (nI cnt) vi wk SS KK VV ZZ)) := hD
        refine lv_aload_n hx hb d_L_law_259 rfl (lv_at hl 3 rfl) ?_
        refine lv_aload_n hx hb d_L_law_260 rfl (lv_at hl 1 rfl) ?_
        refine lv_iload_n hx hb d_L_law_261 rfl (lv_at hl 0 rfl) ?_
        refine lv_iconst (v := 1) hx hb d_L_law_262 (by decide) ?_
        refine lv_iadd hx hb d_L_law_263 ?_
        refine x_top (z := (nI (i + 1))) (nI_add i 1) ?_
        refine va_sld hx hb hX hbl hbA hS (vp_in_nI (n := (i + 1)) (by omega) (by omega)) d_L_law_264 ?_
        refine x_top (z := (xs (i + 1))) (congrArg xs (nI_clamp (by omega))) ?_
        refine xV_i (D := D) (k := 1) (ci := 2) (q := ("StepMapModel", F_N, 12)) (wr := (wS x0 hf ad3 ad4 cA (fc, (tb c SS KK VV), oc, (tb (1 - c) SS KK VV), cur, cnt, wk) fv3 ov3)) (wb := fun u => ((wS x0 hf ad3 ad4 cA (fc, (tb c SS KK VV), oc, (tb (1 - c) SS KK VV), cur, cnt, wk) fv3 ov3) ++ (wU m0 qd cA 0 hf (fc, (tb c SS KK VV), oc, (tb (1 - c) SS KK VV), cur, cnt, wk) u))) (rest := [.int (oslotA fc (tb c SS KK VV) oc (tb (1 - c) SS KK VV) cur (xs (i + 1)))]) ⟨hx, hb, hml, hown, ht⟩ (c_N_slot l D cA m0 qd th hf c mv cq cnt vi wk SS KK VV ZZ fc oc cur (xs (i + 1)) hmr hiv) gv_L_61 (by decide +kernel) rfl ⟨Nat.le_of_ble_eq_true rfl, Nat.le_of_ble_eq_true rfl⟩ hk hP hD hS hA [9, 10, 11, 12, 13] [0, 1, 2, 3, 4, 5, 6, 7, 8] [0, 1, 2, 3, 4, 5, 6, 7, 8, 9, 10, 11, 12, 13] rfl rfl (fun _ => rfl) ⟨rfl, rfl, rfl⟩ (by decide) rfl rfl hl.1 rfl (Nat.le_of_ble_eq_true rfl) d_L_law_265 ⟨Nat.le_of_ble_eq_true rfl, Nat.le_of_ble_eq_true rfl⟩ (fun r u H locs hp hP hD hS => ?_)
        obtain ⟨hp, hM⟩ := hp
        have hp : r = (oslotA fc (tb c SS KK VV) oc (tb (1 - c) SS KK VV) cur (xs (i + 1))) := hp
        have hp := hp.symm
        subst hp
        refine lv_icmp_eq (tgt := 286) hx hb d_L_law_268 (by decide) (fun _ => ?_) (fun c9 => absurd (rfl) c9)
        exact next (fc, (tb c SS KK VV), oc, (tb (1 - c) SS KK VV), cur, cnt, wk) u ad3 ad4 fv3 ov3 0 H locs hiv hM hP hD hS
      · skip
        refine lv_tableIn (off := 231) (tgt := 273) hx hb d_L_law_42 (by decide) (by decide) (by decide) (by decide) ?_
        refine lv_aload_n hx hb d_L_law_273 rfl (lv_at hl 2 rfl) ?_
        refine xV_i (D := D) (k := 0) (ci := 0) (q := ("StepMap", F_M, 6)) (wr := (wN m0 qd cA th (nI hf) (nI c) mv cq (nI cnt) vi wk SS KK VV ZZ)) (wb := fun u => ((wM x0 hf ad1.1 ad2.1 ad1 ad2 cA (nI cur) (nI cnt) wk (nI fc) fv (tb c SS KK VV) (nI oc) ov (tb (1 - c) SS KK VV)) ++ (wN m0 qd cA th (nI hf) (nI c) mv cq (nI cnt) vi wk SS KK VV ZZ))) (rest := []) ⟨hx, hb, hml, hown, ht⟩ (c_M_cursor l D cA x0 hf ad1 ad2 cur cnt fc oc wk fv ov (tb c SS KK VV) (tb (1 - c) SS KK VV) hcu (by omega)) gv_L_62 (by decide +kernel) rfl ⟨Nat.le_of_ble_eq_true rfl, Nat.le_of_ble_eq_true rfl⟩ hk hP hD hS hA [0, 1, 2, 3, 4, 5, 6, 7, 8] [9, 10, 11, 12, 13] [5, 6, 7, 8, 9, 10, 11, 12, 13, 0, 1, 2, 3, 4] rfl rfl (fun _ => rfl) ⟨rfl, rfl, rfl⟩ (by decide) rfl rfl hl.1 rfl (Nat.le_of_ble_eq_true rfl) d_L_law_274 ⟨Nat.le_of_ble_eq_true rfl, Nat.le_of_ble_eq_true rfl⟩ (fun r u H locs hp hP hD hS => ?_)
        have hp : r = (if cur < oc then nI cur else -1) := hp
        have hp := hp.symm
        subst hp
        have hP : va_P D classes ((wM x0 hf ad1.1 ad2.1 ad1 ad2 cA (nI cur) (nI cnt) wk (nI fc) fv (tb c SS KK VV) (nI oc) ov (tb (1 - c) SS KK VV)) ++ (wN m0 qd cA th (nI hf) (nI c) mv cq (nI cnt) vi wk SS KK VV ZZ)) H := hP
        have hD : va_D A ((wM x0 hf ad1.1 ad2.1 ad1 ad2 cA (nI cur) (nI cnt) wk (nI fc) fv (tb c SS KK VV) (nI oc) ov (tb (1 - c) SS KK VV)) ++ (wN m0 qd cA th (nI hf) (nI c) mv cq (nI cnt) vi wk SS KK VV ZZ)) := hD
        refine lv_aload_n hx hb d_L_law_277 rfl (lv_at hl 3 rfl) ?_
        refine xV_i (D := D) (k := 0) (ci := 2) (q := ("StepMapModel", F_N, 12)) (wr := (wM x0 hf ad1.1 ad2.1 ad1 ad2 cA (nI cur) (nI cnt) wk (nI fc) fv (tb c SS KK VV) (nI oc) ov (tb (1 - c) SS KK VV))) (wb := fun u => ((wM x0 hf ad1.1 ad2.1 ad1 ad2 cA (nI cur) (nI cnt) wk (nI fc) fv (tb c SS KK VV) (nI oc) ov (tb (1 - c) SS KK VV)) ++ (wN m0 qd cA 0 (nI hf) (nI c) mv cq (nI cnt) vi wk SS KK VV ZZ))) (rest := [.int (if cur < oc then nI cur else -1)]) ⟨hx, hb, hml, hown, ht⟩ (c_N_cursor l D cA m0 qd th (nI hf) (nI c) mv cq (nI cnt) vi wk SS KK VV ZZ) gv_L_65 (by decide +kernel) rfl ⟨Nat.le_of_ble_eq_true rfl, Nat.le_of_ble_eq_true rfl⟩ hk hP hD hS hA [9, 10, 11, 12, 13] [0, 1, 2, 3, 4, 5, 6, 7, 8] [0, 1, 2, 3, 4, 5, 6, 7, 8, 9, 10, 11, 12, 13] rfl rfl (fun _ => rfl) ⟨rfl, rfl, rfl⟩ (by decide) rfl rfl hl.1 rfl (Nat.le_of_ble_eq_true rfl) d_L_law_278 ⟨Nat.le_of_ble_eq_true rfl, Nat.le_of_ble_eq_true rfl⟩ (fun r u H locs hp hP hD hS => ?_)
        have hp : r = (if mv = 0 then -1 else cq) := hp
        have hp := hp.symm
        subst hp
        refine x_top (z := (if cur < oc then nI cur else -1)) (by rcases hmo with z | z; rw [if_pos z.1, z.2.1, if_neg (by decide), z.2.2.1]; rw [if_neg z.1, z.2, if_pos rfl]) ?_
        refine lv_icmp_eq (tgt := 286) hx hb d_L_law_281 (by decide) (fun _ => ?_) (fun c9 => absurd (rfl) c9)
        exact next (fc, (tb c SS KK VV), oc, (tb (1 - c) SS KK VV), cur, cnt, wk) (c, mv, cq, vi, SS, KK, VV, ZZ) ad1 ad2 fv ov 0 H locs hiv hmr hP hD hS
      · skip
        have h16 : j < 16 := hj
        refine lv_tableOut (tgt := 286) hx hb d_L_law_42 (Or.inr (by rw [nI_toInt (by omega)]; omega)) (by decide) ?_
        exact next (fc, (tb c SS KK VV), oc, (tb (1 - c) SS KK VV), cur, cnt, wk) (c, mv, cq, vi, SS, KK, VV, ZZ) ad1 ad2 fv ov th _ _ hiv hmr hP hD hS
    · skip
      refine lv_iload_n hx hb d_L_law_28 rfl (lv_at hl 0 rfl) ?_
      refine lv_aload_n hx hb d_L_law_29 rfl (lv_at hl 1 rfl) ?_
      refine va_slen hx hb hX hbl hbA hS d_L_law_30 ?_
      refine x_top (z := (nI L)) (rfl) ?_
      refine lv_iconst (v := 3) hx hb d_L_law_31 (by decide) ?_
      refine lv_isub hx hb d_L_law_32 ?_
      refine lv_icmp_gt (tgt := 292) hx hb d_L_law_33 (by decide) (fun _ => ?_) (fun c9 => absurd (by have := pk_sub_toInt (a := L) (b := 3) (by omega) (by decide); rw [Int32.lt_iff_toInt_lt]; have e3 : (nI L - 3).toInt = (L : Int) - 3 := this; rw [e3, nI_toInt (by omega)]; omega) c9)
      refine lv_iconst (v := 1) hx hb d_L_law_292 (by decide) ?_
      refine va_forget (fun q hq => by have := hS.2.2 q hq; rw [← hAe] at this; exact this) ?_
      exact lw_ret hx hb hr hlocks d_L_law_293
end
section
set_option maxHeartbeats 4000000 in
set_option maxRecDepth 100000 in
/-- THE LAW, from its entry -/
theorem whole_start {p : Program} {e : Env} {s : State} {m : MethodId} {below : List Frame} {meth : Method} {c : Code} (l : Launch) {b L : Nat} {xs : Nat → Int32} (hL : L ≤ 1537) (C0 : lw_At p s m meth c b L xs) : W p l e room_1 s m #[Value.ref b] below meth c s.heap [] 0 0 (lw_Z below #[Value.ref b] s) (entryFrame m ([Value.ref b] : List Value).toArray 4) := by
  obtain ⟨hx, hb, hr, hml, hown, hts, hX, hbl, hlocks, hgv⟩ := id C0
  have ht : ∀ w ∈ wgood, w.before #[Value.ref b] s = true := fun w hw => hts w (List.mem_filter.mp hw).1
  obtain ⟨A, hAe⟩ : ∃ A : Nat → Prop, A = fun q : Nat => s.heap.size ≤ q := ⟨_, rfl⟩
  have hA : ∀ q : Nat, s.heap.size ≤ q → A q := fun q h => by rw [hAe]; exact h
  have hbA : ¬ A b := by rw [hAe]; exact Nat.not_le.mpr hbl
  obtain ⟨c0, iS0, hKn0⟩ := u_known (C := "StepMap") (T := F_M) (N := 6) (n := 6) ht i_M (ht _ mw_1_6)
  obtain ⟨c1, iS1, hKn1⟩ := u_known (C := "StepMap$Table") (T := F_T) (N := 5) (n := 5) ht i_T (ht _ mw_1_17)
  obtain ⟨c2, iS2, hKn2⟩ := u_known (C := "StepMapModel") (T := F_N) (N := 12) (n := 12) ht i_N (ht _ mw_1_177)
  obtain ⟨cA, hAr, hRA⟩ := lw_arr (ht _ mw_1_43)
  obtain ⟨dC, dI, hKc⟩ : ∃ (dC : Nat → ClassId) (dI : Nat → Nat → Nat), ∀ (k : Nat) (q : vw_C), classes[k]? = some q → u_Kn s q.1 q.2.1 q.2.2 (dC k) (dI k) := by
    refine ⟨fun k => if k = 0 then c0 else if k = 1 then c1 else c2, fun k => if k = 0 then iS0 else if k = 1 then iS1 else iS2, ?_⟩
    intro k q hq
    match k, hq with
    | 0, hq => cases hq; exact hKn0
    | 1, hq => cases hq; exact hKn1
    | 2, hq => cases hq; exact hKn2
    | k + 3, hq => simp [classes] at hq
  obtain ⟨D, hDe⟩ : ∃ D : va_G, D = (dC, dI) := ⟨_, rfl⟩
  have hK : va_K D classes [(cA, .int)] s := by
    rw [hDe]
    refine ⟨hKc, fun k q h => ?_⟩
    match k, h with
    | 0, h => cases h; exact ⟨hAr, hRA⟩
    | k + 1, h => simp at h
  have hk : kp D [(cA, .int)] s := ⟨hK, lw_NW hts⟩
  have hS : va_S A s.heap s.heap [] := va_S.rf
  have hP : va_P D classes [] s.heap := fun k q h => by simp at h
  have hD : va_D A [] := ⟨fun i j p q h => by simp at h, fun k q h => by simp at h⟩
  have hl := lv_entry ([.ref b]) (n := 4) (Nat.le_of_ble_eq_true rfl)
  rw [lg_entry_eq]
  generalize (lg_sl ([.ref b]) ++ List.replicate (4 - (lg_sl ([.ref b])).length) Slot.unset).toArray = ls at hl ⊢
  have hl : lv_has ls 4 [(0, .ref b)] := hl
  generalize hce : cellA L xs = cx
  refine va_new (D := D) (cl := classes) (ci := 0) (fs := [.int 0, .null, .null, .int 0, .int 0, .int 0]) (C := "StepMap") (T := F_M) (N := 6) hx hb ht i_M tt_M tt_M_ok hown (ht _ mw_1_5) (ht _ mw_1_6) (ht _ mw_1_1) hk.1 hP hD hS hA rfl (fun j hj => by rcases (show j = 0 ∨ j = 1 ∨ j = 2 ∨ j = 3 ∨ j = 4 ∨ j = 5 by omega) with rfl | rfl | rfl | rfl | rfl | rfl <;> rfl) (Nat.le_of_ble_eq_true rfl) (Nat.le_of_ble_eq_true rfl) d_L_law_0 (fun x0 H hP hD hS => ?_)
  have hP : va_P D classes [(x0, .inr (0, [.int 0, .null, .null, .int 0, .int 0, .int 0]))] H := hP
  have hD : va_D A [(x0, .inr (0, [.int 0, .null, .null, .int 0, .int 0, .int 0]))] := hD
  refine lv_dup hx hb d_L_law_3 rfl ?_
  refine lv_aload_n hx hb d_L_law_4 rfl (lv_at hl 0 rfl) ?_
  refine lv_iconst (v := 0) hx hb d_L_law_5 (by decide) ?_
  refine xS_cell (rest := [.ref x0, .ref x0]) ⟨hx, hb, hml, hown, ht⟩ hL hX hbl hbA hP hS hA hl.1 (Nat.le_of_ble_eq_true rfl) d_L_law_6 ⟨Nat.le_of_ble_eq_true rfl, Nat.le_of_ble_eq_true rfl⟩ (fun H locs hP hS => ?_)
  rw [hce]
  refine xI_v (D := D) (k := 1) (wr := []) (wb := fun u => (wS x0 (hv cx) u.1 u.2 cA (8, (z0, z0, clr z0 8), 0, (z0, z0, z0), 0, 0, 0) 0 0)) (rest := [.ref x0]) ⟨hx, hb, hml, hown, ht⟩ (c_M_init l D cA x0 cx) mw_1_9 mw_1_1 mw_1_7 mw_1_8 rfl (by decide +kernel) rfl ⟨Nat.le_of_ble_eq_true rfl, Nat.le_of_ble_eq_true rfl⟩ hk hP hD hS hA [0] [] [0, 1, 2, 3, 4, 5, 6, 7, 8] rfl rfl (fun _ => rfl) ⟨rfl, rfl, rfl⟩ (by decide) hl.1 rfl (Nat.le_of_ble_eq_true rfl) d_L_law_9 ⟨Nat.le_of_ble_eq_true rfl, Nat.le_of_ble_eq_true rfl⟩ (fun u H locs hp hP hD hS => ?_)
  obtain ⟨ad1, ad2⟩ := u
  have hP : va_P D classes (wS x0 (hv cx) ad1 ad2 cA (8, (z0, z0, clr z0 8), 0, (z0, z0, z0), 0, 0, 0) 0 0) H := hP
  have hD : va_D A (wS x0 (hv cx) ad1 ad2 cA (8, (z0, z0, clr z0 8), 0, (z0, z0, z0), 0, 0, 0) 0 0) := hD
  refine lv_astore_n (lv' := [(1, .ref x0), (0, .ref b)]) hx hb d_L_law_12 rfl hl (by decide) rfl (fun ls hl => ?_)
  refine va_new (D := D) (cl := classes) (ci := 2) (fs := [.int 0, .int 0, .null, .null, .null, .null, .int 0, .int 0, .int 0, .int 0, .int 0, .int 0]) (C := "StepMapModel") (T := F_N) (N := 12) hx hb ht i_N tt_N tt_N_ok hown (ht _ mw_1_176) (ht _ mw_1_177) (ht _ mw_1_4) hk.1 hP hD hS hA rfl (fun j hj => by rcases (show j = 0 ∨ j = 1 ∨ j = 2 ∨ j = 3 ∨ j = 4 ∨ j = 5 ∨ j = 6 ∨ j = 7 ∨ j = 8 ∨ j = 9 ∨ j = 10 ∨ j = 11 by omega) with rfl | rfl | rfl | rfl | rfl | rfl | rfl | rfl | rfl | rfl | rfl | rfl <;> rfl) (Nat.le_of_ble_eq_true rfl) (Nat.le_of_ble_eq_true rfl) d_L_law_13 (fun m0 H hP hD hS => ?_)
  have hP : va_P D classes ((wS x0 (hv cx) ad1 ad2 cA (8, (z0, z0, clr z0 8), 0, (z0, z0, z0), 0, 0, 0) 0 0) ++ [(m0, .inr (2, [.int 0, .int 0, .null, .null, .null, .null, .int 0, .int 0, .int 0, .int 0, .int 0, .int 0]))]) H := hP
  have hD : va_D A ((wS x0 (hv cx) ad1 ad2 cA (8, (z0, z0, clr z0 8), 0, (z0, z0, z0), 0, 0, 0) 0 0) ++ [(m0, .inr (2, [.int 0, .int 0, .null, .null, .null, .null, .int 0, .int 0, .int 0, .int 0, .int 0, .int 0]))]) := hD
  refine lv_dup hx hb d_L_law_16 rfl ?_
  refine lv_aload_n hx hb d_L_law_17 rfl (lv_at hl 1 rfl) ?_
  refine lv_iconst (v := 0) hx hb d_L_law_18 (by decide) ?_
  refine xS_cell (rest := [.ref m0, .ref m0]) ⟨hx, hb, hml, hown, ht⟩ hL hX hbl hbA hP hS hA hl.1 (Nat.le_of_ble_eq_true rfl) d_L_law_19 ⟨Nat.le_of_ble_eq_true rfl, Nat.le_of_ble_eq_true rfl⟩ (fun H locs hP hS => ?_)
  rw [hce]
  refine xI_v (D := D) (k := 1) (wr := (wS x0 (hv cx) ad1 ad2 cA (8, (z0, z0, clr z0 8), 0, (z0, z0, z0), 0, 0, 0) 0 0)) (wb := fun u => ((wS x0 (hv cx) ad1 ad2 cA (8, (z0, z0, clr z0 8), 0, (z0, z0, z0), 0, 0, 0) 0 0) ++ (wU m0 u cA 0 (hv cx) (8, (z0, z0, clr z0 8), 0, (z0, z0, z0), 0, 0, 0) (0, 0, 0, 0, z0, z0, z0, upd z0 0 8)))) (rest := [.ref m0]) ⟨hx, hb, hml, hown, ht⟩ (c_N_init l D cA m0 cx) mw_1_180 mw_1_4 mw_1_178 mw_1_179 rfl (by decide +kernel) rfl ⟨Nat.le_of_ble_eq_true rfl, Nat.le_of_ble_eq_true rfl⟩ hk hP hD hS hA [9] [0, 1, 2, 3, 4, 5, 6, 7, 8] [0, 1, 2, 3, 4, 5, 6, 7, 8, 9, 10, 11, 12, 13] rfl rfl (fun _ => rfl) ⟨rfl, rfl, rfl⟩ (by decide) hl.1 rfl (Nat.le_of_ble_eq_true rfl) d_L_law_22 ⟨Nat.le_of_ble_eq_true rfl, Nat.le_of_ble_eq_true rfl⟩ (fun u H locs hp hP hD hS => ?_)
  obtain ⟨qd, eqd⟩ : ∃ z : Ad, z = u := ⟨_, rfl⟩
  rw [← eqd] at hP hD
  have hP : va_P D classes ((wS x0 (hv cx) ad1 ad2 cA (8, (z0, z0, clr z0 8), 0, (z0, z0, z0), 0, 0, 0) 0 0) ++ (wU m0 qd cA 0 (hv cx) (8, (z0, z0, clr z0 8), 0, (z0, z0, z0), 0, 0, 0) (0, 0, 0, 0, z0, z0, z0, upd z0 0 8))) H := hP
  have hD : va_D A ((wS x0 (hv cx) ad1 ad2 cA (8, (z0, z0, clr z0 8), 0, (z0, z0, z0), 0, 0, 0) 0 0) ++ (wU m0 qd cA 0 (hv cx) (8, (z0, z0, clr z0 8), 0, (z0, z0, z0), 0, 0, 0) (0, 0, 0, 0, z0, z0, z0, upd z0 0 8))) := hD
  refine lv_astore_n (lv' := [(2, .ref m0), (1, .ref x0), (0, .ref b)]) hx hb d_L_law_25 rfl hl (by decide) rfl (fun ls hl => ?_)
  refine lv_iconst (v := 1) hx hb d_L_law_26 (by decide) ?_
  refine x_top (z := (nI 1)) (rfl) ?_
  refine lv_istore_n (lv' := [(3, .int (nI 1)), (2, .ref m0), (1, .ref x0), (0, .ref b)]) hx hb d_L_law_27 rfl hl (by decide) rfl (fun ls hl => ?_)
  refine W.widen (k := 600000) (n := 7302250) (Nat.le_of_ble_eq_true rfl) (Nat.le_of_ble_eq_true rfl) ?_
  subst hAe
  exact law_loop (hf := hv cx) hL C0 hk (fun _ h => h) (L + 3) 1 (8, (z0, z0, clr z0 8), 0, (z0, z0, z0), 0, 0, 0) (0, 0, 0, 0, z0, z0, z0, upd z0 0 8) ad1 ad2 0 0 0 _ _ _ (by omega) (by omega) (Iv_start (hv_pw cx) _ _ (fun j hj => by show clr z0 8 j = 0; rw [clr_z0])) MR_start hP hD hS (lv_sub hl [0, 3, 2, 1] rfl)
-- ===== YOUR PART ENDS =====
set_option maxHeartbeats 4000000 in
theorem lw_walk (l : Launch) (b : Addr) (xs : List Int32) : MetFree l x (headSpec (Jvm.Cond.code x code maxLocals ret :: tables_1) room_1) (lw_P b xs) (fun _ _ _ _ _ => True) lw_Q := by
  refine MetFree.of_bodyS (code := code) (maxLocals := maxLocals) (ret := ret) (by decide) ?_ ?_
  · intro args s m h hn
    obtain ⟨meth, c, h1, h2, h3, h4, h5, h6, -, -⟩ := Cond.code_spec hn (atoms_spec (ws := Jvm.Cond.code x code maxLocals ret :: tables_1) h _ List.mem_cons_self)
    exact ⟨meth, c, h1, h2, h3, h4, h5, h6⟩
  · intro p e s m args below meth c s₁ B hml0 hP _
    obtain ⟨rfl, hx, hbd, hgv⟩ := hP
    obtain ⟨scr, harrAt, hlist, hof, hsmall⟩ := hx
    obtain ⟨hcb, hkn, -, -⟩ := State.arrayAt?_spec harrAt
    have hown : s.vm.findClass R_law = some m.cls := findClass_of_methodNamed B.named
    have hts0 : ∀ c ∈ (Jvm.Cond.code x code maxLocals ret :: tables_1), c.before #[Value.ref b] s = true := atoms_spec (ws := Jvm.Cond.code x code maxLocals ret :: tables_1) B.pre
    have hts : ∀ w ∈ lw_tbl, w.before #[Value.ref b] s = true := k2_hts_sels lw_privs (fun w hw => hts0 w (List.mem_cons_of_mem _ hw)) lw_privs_ok
    have hml : c.maxLocals = 4 := B.maxLocals_eq (hts0 _ List.mem_cons_self)
    have X₀ : Stand p l e room_1 s m #[Value.ref b] below meth c s₁ [] 0 0 := Stand.of_body B
    have hh0 : s₁.heap = s.heap := by rw [B.state]; rfl
    have hsz : scr.slots.size = xs.length := by rw [← Array.length_toList, hlist, List.length_map]
    have hval : ∀ j : Nat, j < xs.length → scr.slots[j]? = some (.int (xs.getD j 0)) := fun j hj => by
      rw [← Array.getElem?_toList, hlist]
      simp [hj]
    have hbl : b < s.heap.size := (Array.getElem?_eq_some_iff.mp hcb).1
    have hX : va_X b xs.length (fun j => xs.getD j 0) s s.heap := ⟨scr, hcb, hof, hkn, hsz, hval⟩
    have K : W p l e room_1 s m #[Value.ref b] below meth c s₁.heap [] 0 0 (lw_Z below #[Value.ref b] s) (entryFrame m ([Value.ref b] : List Value).toArray 4) := by
      rw [hh0]
      exact whole_start l hbd ⟨B.exec, B.bytes, B.returns, hml, hown, hts, hX, hbl, B.notSynchronized, hgv⟩
    obtain ⟨t, a1, o, b1, b2, b3⟩ := K s₁ rfl X₀
    exact ⟨t, o, a1, b1, b2, b3⟩
theorem lw_pre_spec {args : Array Value} {s : State} (h : (Jvm.Cond.and given_1 narrow_1).before args s = true) (hr : rest_1_c.before args s = true) : ∃ (b : Addr) (xs : List Int32), lw_P b xs args s := by
  have hs := flat_of_before _ h
  have hq := flat_of_before _ hr
  have hc : (Cond.count 1).before args s = true := hs _ (by decide +kernel)
  have harr : (Cond.arrayOf (.arg 0) .int).before args s = true := hs _ (by decide +kernel)
  have hle : (Cond.le (.length (.arg 0)) (.int 1537)).before args s = true := hs _ (by decide +kernel)
  have hlen : (Cond.isInt (.length (.arg 0))).before args s = true := hq _ (by decide +kernel)
  have hall : (Cond.all (.arg 0) (.isInt (.elem (.arg 0) (.index 0)))).before args s = true := hq _ (by decide +kernel)
  obtain ⟨b, xs, hb, hx⟩ := State.ints_of_pre rfl harr hlen hall
  have hsm : xs.length < 2 ^ 31 := hx.choose_spec.2.2.2
  have hev : (Term.length (.arg 0)).eval args s none [] s = some (.int xs.length.toInt32) := hx.length_eval hb
  have hv := Cond.le_ints hev (show (Term.int 1537).eval args s none [] s = some (.int 1537) from rfl)
  have hd : xs.length.toInt32 ≤ 1537 := by
    simpa [Cond.before, Cond.holds, hv] using hle
  have hN : xs.length ≤ 1537 := (Int32.ofNat_le_ofNat hsm (by decide)).mp (show Int32.ofNat xs.length ≤ Int32.ofNat 1537 from hd)
  exact ⟨b, xs, Cond.one_arg hc (show args[0]? = some (.ref b) from hb), hx, hN, h⟩
theorem lw_comes (l : Launch) : Comes l x (Jvm.Cond.code x code maxLocals ret :: tables_1) room_1 (fun tb e args s => Calls_1 tb e args s ∧ rest_1 tb e args s ∧ Pre_1 tb e args s)
    (fun _ _ args s o t => lw_Q args s o t) := by
  intro p e ha hc hk s m args below hf hfit hheap happ hpre
  obtain ⟨b, xs, hP⟩ := lw_pre_spec hpre.2.2 hpre.2.1
  obtain ⟨k, o, h1, h2, h3, hQ⟩ := lw_walk l b xs p e ha hc hk s m args below hf ((Spec.applies_iff_loose hf).mp happ).1 hP trivial
  exact ⟨k, o, h1, h2, h3, hQ⟩
theorem lw_frame {s t : State} {o : Outcome} {args : Array Value} (h : Framed s o t [] 600000 7302250) :
    Framed s o t (fieldLocs frame_1_writes args s ++ arrayLocs frame_1_arrays args s ++ staticLocs frame_1_statics s) 600000 7302250 := h
theorem lw_limb (L : Cond) (hL : ∀ (args : Array Value) (s t : State), L.after args s (.returned (some (.int 1))) t = true) :
    ArmFor flags0 classFile x code maxLocals ret World_1 tables_1 room_1 Calls_1 rest_1 Pre_1
      (fun tb e a s o t => postC L tb e a s o t ∧ Framed s o t (fieldLocs frame_1_writes a s ++ arrayLocs frame_1_arrays a s ++ staticLocs frame_1_statics s) 600000 7302250) := by
  intro l _ _ _ p e ha hc hk s m args below hf hfit hheap happ hpre
  obtain ⟨k, o, h1, h2, h3, rfl, hF⟩ := lw_comes l p e ha hc hk s m args below hf hfit hheap happ hpre
  exact ⟨k, _, h1, h2, h3, hL args s _, lw_frame hF⟩
theorem i_vc : Claimed_1_1 ∧ Claimed_1_2 := ⟨lw_limb limb_1_1 (fun args s t => by simp [limb_1_1, Cond.after, Cond.holds, Cond.value]), lw_limb limb_1_2 (fun args s t => Cond.after_iff.mpr (by
  first | (rw [show limb_1_2 = Cond.eq .result (.int 1) from rfl, Cond.eq_ints (x := 1) (y := 1) rfl rfl]; simp; done) | (simp [limb_1_2, Cond.value, Term.eval]; done)))⟩
end
