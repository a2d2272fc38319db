section
-- ===== PART A: goes FIRST, ahead of the names: the tables' words, and 'selects' of the private methods out of them =====
/-- a private method of a class that the tables say can be made, by its rows of tables_1 -/
def lw_okq (q : MethodName × Nat) : Prop := (q.1.cls ≠ "java/lang/invoke/MethodHandle" ∧ q.1.cls ≠ "java/lang/invoke/VarHandle") ∧ Cond.instantiable q.1.cls q.2 ∈ tables_1 ∧ Cond.privateMethod q.1 ∈ tables_1 ∧ Cond.instanceMethod q.1 ∈ tables_1
theorem lw_p0 : lw_okq (⟨"ExternalSorter", "spill", "()V"⟩, 24) := ⟨⟨by decide +kernel, by decide +kernel⟩, List.mem_of_getElem? (i := 9) (by decide +kernel), List.mem_of_getElem? (i := 105) (by decide +kernel), List.mem_of_getElem? (i := 106) (by decide +kernel)⟩
theorem lw_p1 : lw_okq (⟨"ExternalSorter", "sort", "()V"⟩, 24) := ⟨⟨by decide +kernel, by decide +kernel⟩, List.mem_of_getElem? (i := 9) (by decide +kernel), List.mem_of_getElem? (i := 109) (by decide +kernel), List.mem_of_getElem? (i := 110) (by decide +kernel)⟩
theorem lw_p2 : lw_okq (⟨"ExternalSorter", "sink", "(II)V"⟩, 24) := ⟨⟨by decide +kernel, by decide +kernel⟩, List.mem_of_getElem? (i := 9) (by decide +kernel), List.mem_of_getElem? (i := 113) (by decide +kernel), List.mem_of_getElem? (i := 114) (by decide +kernel)⟩
theorem lw_p3 : lw_okq (⟨"ExternalSorter", "isBefore", "(II)Z"⟩, 24) := ⟨⟨by decide +kernel, by decide +kernel⟩, List.mem_of_getElem? (i := 9) (by decide +kernel), List.mem_of_getElem? (i := 117) (by decide +kernel), List.mem_of_getElem? (i := 118) (by decide +kernel)⟩
theorem lw_p4 : lw_okq (⟨"ExternalSorter", "swap", "(II)V"⟩, 24) := ⟨⟨by decide +kernel, by decide +kernel⟩, List.mem_of_getElem? (i := 9) (by decide +kernel), List.mem_of_getElem? (i := 121) (by decide +kernel), List.mem_of_getElem? (i := 122) (by decide +kernel)⟩
theorem lw_p5 : lw_okq (⟨"ExternalSorter", "hasRow", "(I)Z"⟩, 24) := ⟨⟨by decide +kernel, by decide +kernel⟩, List.mem_of_getElem? (i := 9) (by decide +kernel), List.mem_of_getElem? (i := 129) (by decide +kernel), List.mem_of_getElem? (i := 130) (by decide +kernel)⟩
theorem lw_p6 : lw_okq (⟨"ExternalSorter", "play", "(I)V"⟩, 24) := ⟨⟨by decide +kernel, by decide +kernel⟩, List.mem_of_getElem? (i := 9) (by decide +kernel), List.mem_of_getElem? (i := 133) (by decide +kernel), List.mem_of_getElem? (i := 134) (by decide +kernel)⟩
theorem lw_p7 : lw_okq (⟨"ExternalSorter", "first", "(II)I"⟩, 24) := ⟨⟨by decide +kernel, by decide +kernel⟩, List.mem_of_getElem? (i := 9) (by decide +kernel), List.mem_of_getElem? (i := 137) (by decide +kernel), List.mem_of_getElem? (i := 138) (by decide +kernel)⟩
theorem lw_p8 : lw_okq (⟨"ExternalSorter", "keyOf", "(I)I"⟩, 24) := ⟨⟨by decide +kernel, by decide +kernel⟩, List.mem_of_getElem? (i := 9) (by decide +kernel), List.mem_of_getElem? (i := 141) (by decide +kernel), List.mem_of_getElem? (i := 142) (by decide +kernel)⟩
theorem lw_p9 : lw_okq (⟨"ExternalSorter", "top", "()I"⟩, 24) := ⟨⟨by decide +kernel, by decide +kernel⟩, List.mem_of_getElem? (i := 9) (by decide +kernel), List.mem_of_getElem? (i := 149) (by decide +kernel), List.mem_of_getElem? (i := 150) (by decide +kernel)⟩
theorem lw_p10 : lw_okq (⟨"ExternalSorter", "valueOf", "(I)I"⟩, 24) := ⟨⟨by decide +kernel, by decide +kernel⟩, List.mem_of_getElem? (i := 9) (by decide +kernel), List.mem_of_getElem? (i := 153) (by decide +kernel), List.mem_of_getElem? (i := 154) (by decide +kernel)⟩
theorem lw_p11 : lw_okq (⟨"ExternalSorter", "pass", "()V"⟩, 24) := ⟨⟨by decide +kernel, by decide +kernel⟩, List.mem_of_getElem? (i := 9) (by decide +kernel), List.mem_of_getElem? (i := 157) (by decide +kernel), List.mem_of_getElem? (i := 158) (by decide +kernel)⟩
theorem lw_p12 : lw_okq (⟨"java/lang/Throwable", "fillInStackTrace", "(I)Ljava/lang/Throwable;"⟩, 6) := ⟨⟨by decide +kernel, by decide +kernel⟩, List.mem_of_getElem? (i := 224) (by decide +kernel), List.mem_of_getElem? (i := 222) (by decide +kernel), List.mem_of_getElem? (i := 223) (by decide +kernel)⟩
theorem lw_p13 : lw_okq (⟨"ExternalSorterModel", "take", "(II)V"⟩, 19) := ⟨⟨by decide +kernel, by decide +kernel⟩, List.mem_of_getElem? (i := 264) (by decide +kernel), List.mem_of_getElem? (i := 341) (by decide +kernel), List.mem_of_getElem? (i := 342) (by decide +kernel)⟩
theorem lw_p14 : lw_okq (⟨"ExternalSorterModel", "runsLeft", "()I"⟩, 19) := ⟨⟨by decide +kernel, by decide +kernel⟩, List.mem_of_getElem? (i := 264) (by decide +kernel), List.mem_of_getElem? (i := 381) (by decide +kernel), List.mem_of_getElem? (i := 382) (by decide +kernel)⟩
def lw_privs_1 : List (MethodName × Nat) := [(⟨"ExternalSorter", "spill", "()V"⟩, 24), (⟨"ExternalSorter", "sort", "()V"⟩, 24), (⟨"ExternalSorter", "sink", "(II)V"⟩, 24), (⟨"ExternalSorter", "isBefore", "(II)Z"⟩, 24), (⟨"ExternalSorter", "swap", "(II)V"⟩, 24), (⟨"ExternalSorter", "hasRow", "(I)Z"⟩, 24), (⟨"ExternalSorter", "play", "(I)V"⟩, 24), (⟨"ExternalSorter", "first", "(II)I"⟩, 24), (⟨"ExternalSorter", "keyOf", "(I)I"⟩, 24), (⟨"ExternalSorter", "top", "()I"⟩, 24), (⟨"ExternalSorter", "valueOf", "(I)I"⟩, 24), (⟨"ExternalSorter", "pass", "()V"⟩, 24), (⟨"java/lang/Throwable", "fillInStackTrace", "(I)Ljava/lang/Throwable;"⟩, 6), (⟨"ExternalSorterModel", "take", "(II)V"⟩, 19), (⟨"ExternalSorterModel", "runsLeft", "()I"⟩, 19)]
theorem lw_r1 : ∀ q ∈ lw_privs_1, lw_okq q := List.forall_mem_cons.mpr ⟨lw_p0, List.forall_mem_cons.mpr ⟨lw_p1, List.forall_mem_cons.mpr ⟨lw_p2, List.forall_mem_cons.mpr ⟨lw_p3, List.forall_mem_cons.mpr ⟨lw_p4, List.forall_mem_cons.mpr ⟨lw_p5, List.forall_mem_cons.mpr ⟨lw_p6, List.forall_mem_cons.mpr ⟨lw_p7, List.forall_mem_cons.mpr ⟨lw_p8, List.forall_mem_cons.mpr ⟨lw_p9, List.forall_mem_cons.mpr ⟨lw_p10, List.forall_mem_cons.mpr ⟨lw_p11, List.forall_mem_cons.mpr ⟨lw_p12, List.forall_mem_cons.mpr ⟨lw_p13, List.forall_mem_cons.mpr ⟨lw_p14, fun _ h => absurd h List.not_mem_nil⟩⟩⟩⟩⟩⟩⟩⟩⟩⟩⟩⟩⟩⟩⟩
def lw_privs : List (MethodName × Nat) := lw_privs_1
def lw_tbl : List Cond := k2_sels lw_privs ++ tables_1
theorem lw_privs_ok : ∀ q ∈ lw_privs, lw_okq q := lw_r1
-- ===== names (printed by gen/names.py) =====
/-- the words of the tables that may be carried into a callee -/
def tb : List Cond := lw_tbl.filter goodWord
def R_law : String := "ExternalSorterLaw"
def R_ES : String := "ExternalSorter"
def F_ES : u_T := fun k => match k with
  | 0 => ("ExternalSorter", "width", "I", true)
  | 1 => ("ExternalSorter", "room", "I", true)
  | 2 => ("ExternalSorter", "keys", "[I", true)
  | 3 => ("ExternalSorter", "values", "[I", true)
  | 4 => ("ExternalSorter", "places", "[I", true)
  | 5 => ("ExternalSorter", "held", "I", false)
  | 6 => ("ExternalSorter", "spillKeys", "[I", true)
  | 7 => ("ExternalSorter", "spillValues", "[I", true)
  | 8 => ("ExternalSorter", "spilled", "I", false)
  | 9 => ("ExternalSorter", "fed", "I", false)
  | 10 => ("ExternalSorter", "sealed", "Z", false)
  | 11 => ("ExternalSorter", "at", "[I", true)
  | 12 => ("ExternalSorter", "ends", "[I", true)
  | 13 => ("ExternalSorter", "runs", "I", false)
  | 14 => ("ExternalSorter", "winners", "[I", true)
  | 15 => ("ExternalSorter", "size", "I", false)
  | 16 => ("ExternalSorter", "consumed", "I", false)
  | 17 => ("ExternalSorter", "current", "I", false)
  | 18 => ("ExternalSorter", "key", "I", false)
  | 19 => ("ExternalSorter", "value", "I", false)
  | 20 => ("ExternalSorter", "many", "I", false)
  | 21 => ("ExternalSorter", "sum", "I", false)
  | 22 => ("ExternalSorter", "least", "I", false)
  | _ => ("ExternalSorter", "greatest", "I", false)
def t_ES : Nat → FieldType := fun k => match k with
  | 0 => .int
  | 1 => .int
  | 2 => .array .int
  | 3 => .array .int
  | 4 => .array .int
  | 5 => .int
  | 6 => .array .int
  | 7 => .array .int
  | 8 => .int
  | 9 => .int
  | 10 => .boolean
  | 11 => .array .int
  | 12 => .array .int
  | 13 => .int
  | 14 => .array .int
  | 15 => .int
  | 16 => .int
  | 17 => .int
  | 18 => .int
  | 19 => .int
  | 20 => .int
  | 21 => .int
  | 22 => .int
  | _ => .int
theorem n_ES : ∀ a, a < 24 → ∀ b, b < 24 → a ≠ b → (F_ES a).2.1 ≠ (F_ES b).2.1 := by decide +kernel
theorem t_ES_ok : ∀ k, k < 24 → parseFieldDescriptor (F_ES k).2.2.1 = some (t_ES k) := by decide +kernel
theorem i_ES : ∀ w ∈ u_ws R_ES F_ES 24, w ∈ tb := by decide +kernel
theorem o_ES (k : Nat) : (F_ES k).1 = R_ES := by unfold F_ES; split <;> rfl
theorem lk_ES_0 : 0 < 24 ∧ Cond.fieldLink R_ES 16 R_ES (F_ES 0).2.1 (F_ES 0).2.2.1 ∈ tb := by decide +kernel
theorem lk_ES_1 : 1 < 24 ∧ Cond.fieldLink R_ES 22 R_ES (F_ES 1).2.1 (F_ES 1).2.2.1 ∈ tb := by decide +kernel
theorem lk_ES_2 : 2 < 24 ∧ Cond.fieldLink R_ES 25 R_ES (F_ES 2).2.1 (F_ES 2).2.2.1 ∈ tb := by decide +kernel
theorem lk_ES_3 : 3 < 24 ∧ Cond.fieldLink R_ES 29 R_ES (F_ES 3).2.1 (F_ES 3).2.2.1 ∈ tb := by decide +kernel
theorem lk_ES_4 : 4 < 24 ∧ Cond.fieldLink R_ES 32 R_ES (F_ES 4).2.1 (F_ES 4).2.2.1 ∈ tb := by decide +kernel
theorem lk_ES_5 : 5 < 24 ∧ Cond.fieldLink R_ES 50 R_ES (F_ES 5).2.1 (F_ES 5).2.2.1 ∈ tb := by decide +kernel
theorem lk_ES_6 : 6 < 24 ∧ Cond.fieldLink R_ES 35 R_ES (F_ES 6).2.1 (F_ES 6).2.2.1 ∈ tb := by decide +kernel
theorem lk_ES_7 : 7 < 24 ∧ Cond.fieldLink R_ES 38 R_ES (F_ES 7).2.1 (F_ES 7).2.2.1 ∈ tb := by decide +kernel
theorem lk_ES_8 : 8 < 24 ∧ Cond.fieldLink R_ES 53 R_ES (F_ES 8).2.1 (F_ES 8).2.2.1 ∈ tb := by decide +kernel
theorem lk_ES_9 : 9 < 24 ∧ Cond.fieldLink R_ES 56 R_ES (F_ES 9).2.1 (F_ES 9).2.2.1 ∈ tb := by decide +kernel
theorem lk_ES_10 : 10 < 24 ∧ Cond.fieldLink R_ES 59 R_ES (F_ES 10).2.1 (F_ES 10).2.2.1 ∈ tb := by decide +kernel
theorem lk_ES_11 : 11 < 24 ∧ Cond.fieldLink R_ES 41 R_ES (F_ES 11).2.1 (F_ES 11).2.2.1 ∈ tb := by decide +kernel
theorem lk_ES_12 : 12 < 24 ∧ Cond.fieldLink R_ES 44 R_ES (F_ES 12).2.1 (F_ES 12).2.2.1 ∈ tb := by decide +kernel
theorem lk_ES_13 : 13 < 24 ∧ Cond.fieldLink R_ES 63 R_ES (F_ES 13).2.1 (F_ES 13).2.2.1 ∈ tb := by decide +kernel
theorem lk_ES_14 : 14 < 24 ∧ Cond.fieldLink R_ES 47 R_ES (F_ES 14).2.1 (F_ES 14).2.2.1 ∈ tb := by decide +kernel
theorem lk_ES_15 : 15 < 24 ∧ Cond.fieldLink R_ES 106 R_ES (F_ES 15).2.1 (F_ES 15).2.2.1 ∈ tb := by decide +kernel
theorem lk_ES_16 : 16 < 24 ∧ Cond.fieldLink R_ES 66 R_ES (F_ES 16).2.1 (F_ES 16).2.2.1 ∈ tb := by decide +kernel
theorem lk_ES_17 : 17 < 24 ∧ Cond.fieldLink R_ES 69 R_ES (F_ES 17).2.1 (F_ES 17).2.2.1 ∈ tb := by decide +kernel
theorem lk_ES_18 : 18 < 24 ∧ Cond.fieldLink R_ES 117 R_ES (F_ES 18).2.1 (F_ES 18).2.2.1 ∈ tb := by decide +kernel
theorem lk_ES_19 : 19 < 24 ∧ Cond.fieldLink R_ES 123 R_ES (F_ES 19).2.1 (F_ES 19).2.2.1 ∈ tb := by decide +kernel
theorem lk_ES_20 : 20 < 24 ∧ Cond.fieldLink R_ES 129 R_ES (F_ES 20).2.1 (F_ES 20).2.2.1 ∈ tb := by decide +kernel
theorem lk_ES_21 : 21 < 24 ∧ Cond.fieldLink R_ES 132 R_ES (F_ES 21).2.1 (F_ES 21).2.2.1 ∈ tb := by decide +kernel
theorem lk_ES_22 : 22 < 24 ∧ Cond.fieldLink R_ES 135 R_ES (F_ES 22).2.1 (F_ES 22).2.2.1 ∈ tb := by decide +kernel
theorem lk_ES_23 : 23 < 24 ∧ Cond.fieldLink R_ES 138 R_ES (F_ES 23).2.1 (F_ES 23).2.2.1 ∈ tb := by decide +kernel
def R_EM : String := "ExternalSorterModel"
def F_EM : u_T := fun k => match k with
  | 0 => ("ExternalSorterModel", "thrown", "I", false)
  | 1 => ("ExternalSorterModel", "wide", "I", true)
  | 2 => ("ExternalSorterModel", "room", "I", true)
  | 3 => ("ExternalSorterModel", "fed", "I", false)
  | 4 => ("ExternalSorterModel", "spills", "I", false)
  | 5 => ("ExternalSorterModel", "held", "I", false)
  | 6 => ("ExternalSorterModel", "reading", "Z", false)
  | 7 => ("ExternalSorterModel", "gone", "I", false)
  | 8 => ("ExternalSorterModel", "current", "I", false)
  | 9 => ("ExternalSorterModel", "nowKey", "I", false)
  | 10 => ("ExternalSorterModel", "nowValue", "I", false)
  | 11 => ("ExternalSorterModel", "groupCount", "I", false)
  | 12 => ("ExternalSorterModel", "groupSum", "I", false)
  | 13 => ("ExternalSorterModel", "groupLeast", "I", false)
  | 14 => ("ExternalSorterModel", "groupMost", "I", false)
  | 15 => ("ExternalSorterModel", "keys", "[I", true)
  | 16 => ("ExternalSorterModel", "values", "[I", true)
  | 17 => ("ExternalSorterModel", "order", "[I", true)
  | _ => ("ExternalSorterModel", "left", "[Z", true)
def t_EM : Nat → FieldType := fun k => match k with
  | 0 => .int
  | 1 => .int
  | 2 => .int
  | 3 => .int
  | 4 => .int
  | 5 => .int
  | 6 => .boolean
  | 7 => .int
  | 8 => .int
  | 9 => .int
  | 10 => .int
  | 11 => .int
  | 12 => .int
  | 13 => .int
  | 14 => .int
  | 15 => .array .int
  | 16 => .array .int
  | 17 => .array .int
  | _ => .array .boolean
theorem n_EM : ∀ a, a < 19 → ∀ b, b < 19 → a ≠ b → (F_EM a).2.1 ≠ (F_EM b).2.1 := by decide +kernel
theorem t_EM_ok : ∀ k, k < 19 → parseFieldDescriptor (F_EM k).2.2.1 = some (t_EM k) := by decide +kernel
theorem i_EM : ∀ w ∈ u_ws R_EM F_EM 19, w ∈ tb := by decide +kernel
theorem o_EM (k : Nat) : (F_EM k).1 = R_EM := by unfold F_EM; split <;> rfl
theorem lk_EM_0 : 0 < 19 ∧ Cond.fieldLink R_EM 30 R_EM (F_EM 0).2.1 (F_EM 0).2.2.1 ∈ tb := by decide +kernel
theorem lk_EM_1 : 1 < 19 ∧ Cond.fieldLink R_EM 23 R_EM (F_EM 1).2.1 (F_EM 1).2.2.1 ∈ tb := by decide +kernel
theorem lk_EM_2 : 2 < 19 ∧ Cond.fieldLink R_EM 27 R_EM (F_EM 2).2.1 (F_EM 2).2.2.1 ∈ tb := by decide +kernel
theorem lk_EM_3 : 3 < 19 ∧ Cond.fieldLink R_EM 33 R_EM (F_EM 3).2.1 (F_EM 3).2.2.1 ∈ tb := by decide +kernel
theorem lk_EM_4 : 4 < 19 ∧ Cond.fieldLink R_EM 36 R_EM (F_EM 4).2.1 (F_EM 4).2.2.1 ∈ tb := by decide +kernel
theorem lk_EM_5 : 5 < 19 ∧ Cond.fieldLink R_EM 39 R_EM (F_EM 5).2.1 (F_EM 5).2.2.1 ∈ tb := by decide +kernel
theorem lk_EM_6 : 6 < 19 ∧ Cond.fieldLink R_EM 42 R_EM (F_EM 6).2.1 (F_EM 6).2.2.1 ∈ tb := by decide +kernel
theorem lk_EM_7 : 7 < 19 ∧ Cond.fieldLink R_EM 46 R_EM (F_EM 7).2.1 (F_EM 7).2.2.1 ∈ tb := by decide +kernel
theorem lk_EM_8 : 8 < 19 ∧ Cond.fieldLink R_EM 49 R_EM (F_EM 8).2.1 (F_EM 8).2.2.1 ∈ tb := by decide +kernel
theorem lk_EM_9 : 9 < 19 ∧ Cond.fieldLink R_EM 56 R_EM (F_EM 9).2.1 (F_EM 9).2.2.1 ∈ tb := by decide +kernel
theorem lk_EM_10 : 10 < 19 ∧ Cond.fieldLink R_EM 59 R_EM (F_EM 10).2.1 (F_EM 10).2.2.1 ∈ tb := by decide +kernel
theorem lk_EM_11 : 11 < 19 ∧ Cond.fieldLink R_EM 62 R_EM (F_EM 11).2.1 (F_EM 11).2.2.1 ∈ tb := by decide +kernel
theorem lk_EM_12 : 12 < 19 ∧ Cond.fieldLink R_EM 65 R_EM (F_EM 12).2.1 (F_EM 12).2.2.1 ∈ tb := by decide +kernel
theorem lk_EM_13 : 13 < 19 ∧ Cond.fieldLink R_EM 68 R_EM (F_EM 13).2.1 (F_EM 13).2.2.1 ∈ tb := by decide +kernel
theorem lk_EM_14 : 14 < 19 ∧ Cond.fieldLink R_EM 71 R_EM (F_EM 14).2.1 (F_EM 14).2.2.1 ∈ tb := by decide +kernel
theorem lk_EM_15 : 15 < 19 ∧ Cond.fieldLink R_EM 7 R_EM (F_EM 15).2.1 (F_EM 15).2.2.1 ∈ tb := by decide +kernel
theorem lk_EM_16 : 16 < 19 ∧ Cond.fieldLink R_EM 13 R_EM (F_EM 16).2.1 (F_EM 16).2.2.1 ∈ tb := by decide +kernel
theorem lk_EM_17 : 17 < 19 ∧ Cond.fieldLink R_EM 16 R_EM (F_EM 17).2.1 (F_EM 17).2.2.1 ∈ tb := by decide +kernel
theorem lk_EM_18 : 18 < 19 ∧ Cond.fieldLink R_EM 19 R_EM (F_EM 18).2.1 (F_EM 18).2.2.1 ∈ tb := by decide +kernel
abbrev b_ES_init : ByteArray := prog_1_method_1_code
def y_ES_init : MethodName := ⟨R_ES, "<init>", "(II)V"⟩
abbrev b_ES_reset : ByteArray := prog_1_method_2_code
def y_ES_reset : MethodName := ⟨R_ES, "reset", "()V"⟩
abbrev b_ES_feed : ByteArray := prog_1_method_8_code
def y_ES_feed : MethodName := ⟨R_ES, "feed", "(II)I"⟩
abbrev b_ES_spill : ByteArray := prog_1_method_7_code
def y_ES_spill : MethodName := ⟨R_ES, "spill", "()V"⟩
abbrev b_ES_sort : ByteArray := prog_1_method_6_code
def y_ES_sort : MethodName := ⟨R_ES, "sort", "()V"⟩
abbrev b_ES_sink : ByteArray := prog_1_method_5_code
def y_ES_sink : MethodName := ⟨R_ES, "sink", "(II)V"⟩
abbrev b_ES_isBefore : ByteArray := prog_1_method_3_code
def y_ES_isBefore : MethodName := ⟨R_ES, "isBefore", "(II)Z"⟩
abbrev b_ES_swap : ByteArray := prog_1_method_4_code
def y_ES_swap : MethodName := ⟨R_ES, "swap", "(II)V"⟩
abbrev b_ES_seal : ByteArray := prog_1_method_15_code
def y_ES_seal : MethodName := ⟨R_ES, "seal", "()I"⟩
abbrev b_ES_hasRow : ByteArray := prog_1_method_12_code
def y_ES_hasRow : MethodName := ⟨R_ES, "hasRow", "(I)Z"⟩
abbrev b_ES_play : ByteArray := prog_1_method_14_code
def y_ES_play : MethodName := ⟨R_ES, "play", "(I)V"⟩
abbrev b_ES_first : ByteArray := prog_1_method_13_code
def y_ES_first : MethodName := ⟨R_ES, "first", "(II)I"⟩
abbrev b_ES_keyOf : ByteArray := prog_1_method_10_code
def y_ES_keyOf : MethodName := ⟨R_ES, "keyOf", "(I)I"⟩
abbrev b_ES_nextRow : ByteArray := prog_1_method_18_code
def y_ES_nextRow : MethodName := ⟨R_ES, "nextRow", "()I"⟩
abbrev b_ES_top : ByteArray := prog_1_method_16_code
def y_ES_top : MethodName := ⟨R_ES, "top", "()I"⟩
abbrev b_ES_valueOf : ByteArray := prog_1_method_11_code
def y_ES_valueOf : MethodName := ⟨R_ES, "valueOf", "(I)I"⟩
abbrev b_ES_pass : ByteArray := prog_1_method_17_code
def y_ES_pass : MethodName := ⟨R_ES, "pass", "()V"⟩
abbrev b_ES_nextGroup : ByteArray := prog_1_method_19_code
def y_ES_nextGroup : MethodName := ⟨R_ES, "nextGroup", "()I"⟩
abbrev b_ES_skipTo : ByteArray := prog_1_method_20_code
def y_ES_skipTo : MethodName := ⟨R_ES, "skipTo", "(I)I"⟩
abbrev b_ES_key : ByteArray := prog_1_method_21_code
def y_ES_key : MethodName := ⟨R_ES, "key", "()I"⟩
abbrev b_ES_value : ByteArray := prog_1_method_22_code
def y_ES_value : MethodName := ⟨R_ES, "value", "()I"⟩
abbrev b_EL_cell : ByteArray := method_2_code
def y_EL_cell : MethodName := ⟨R_law, "cell", "([II)I"⟩
abbrev b_EL_feedMany : ByteArray := method_3_code
def y_EL_feedMany : MethodName := ⟨R_law, "feedMany", "(LExternalSorter;IIII[J)I"⟩
abbrev b_ES_feedMany : ByteArray := prog_1_method_9_code
def y_ES_feedMany : MethodName := ⟨R_ES, "feedMany", "(IIII)I"⟩
abbrev b_EL_group : ByteArray := method_4_code
def y_EL_group : MethodName := ⟨R_law, "group", "(LExternalSorter;I[J)I"⟩
abbrev b_ES_group : ByteArray := prog_1_method_23_code
def y_ES_group : MethodName := ⟨R_ES, "group", "(I)I"⟩
abbrev b_EL_count : ByteArray := method_5_code
def y_EL_count : MethodName := ⟨R_law, "count", "(LExternalSorter;I[J)I"⟩
abbrev b_ES_count : ByteArray := prog_1_method_24_code
def y_ES_count : MethodName := ⟨R_ES, "count", "(I)I"⟩
abbrev b_EM_init : ByteArray := prog_3_method_1_code
def y_EM_init : MethodName := ⟨R_EM, "<init>", "(II)V"⟩
abbrev b_EM_thrown : ByteArray := prog_3_method_2_code
def y_EM_thrown : MethodName := ⟨R_EM, "thrown", "()I"⟩
abbrev b_EM_reset : ByteArray := prog_3_method_3_code
def y_EM_reset : MethodName := ⟨R_EM, "reset", "()V"⟩
abbrev b_EM_feed : ByteArray := prog_3_method_5_code
def y_EM_feed : MethodName := ⟨R_EM, "feed", "(II)I"⟩
abbrev b_EM_take : ByteArray := prog_3_method_4_code
def y_EM_take : MethodName := ⟨R_EM, "take", "(II)V"⟩
abbrev b_EM_feedMany : ByteArray := prog_3_method_6_code
def y_EM_feedMany : MethodName := ⟨R_EM, "feedMany", "(IIII)I"⟩
abbrev b_EM_seal : ByteArray := prog_3_method_7_code
def y_EM_seal : MethodName := ⟨R_EM, "seal", "()I"⟩
abbrev b_EM_nextRow : ByteArray := prog_3_method_8_code
def y_EM_nextRow : MethodName := ⟨R_EM, "nextRow", "()I"⟩
abbrev b_EM_nextGroup : ByteArray := prog_3_method_9_code
def y_EM_nextGroup : MethodName := ⟨R_EM, "nextGroup", "()I"⟩
abbrev b_EM_skipTo : ByteArray := prog_3_method_10_code
def y_EM_skipTo : MethodName := ⟨R_EM, "skipTo", "(I)I"⟩
abbrev b_EM_key : ByteArray := prog_3_method_11_code
def y_EM_key : MethodName := ⟨R_EM, "key", "()I"⟩
abbrev b_EM_value : ByteArray := prog_3_method_12_code
def y_EM_value : MethodName := ⟨R_EM, "value", "()I"⟩
abbrev b_EM_group : ByteArray := prog_3_method_13_code
def y_EM_group : MethodName := ⟨R_EM, "group", "(I)I"⟩
abbrev b_EM_count : ByteArray := prog_3_method_15_code
def y_EM_count : MethodName := ⟨R_EM, "count", "(I)I"⟩
abbrev b_EM_runsLeft : ByteArray := prog_3_method_14_code
def y_EM_runsLeft : MethodName := ⟨R_EM, "runsLeft", "()I"⟩
abbrev classes : List vw_C := [(R_ES, F_ES, 24), (R_EM, F_EM, 19)]
end
section
-- ===== decode rows (printed by gen/names.py) =====
theorem d_ES_init_0 : decode b_ES_init 0 = .ok (.aload_n 0, 1) := by decide +kernel
theorem d_ES_init_1 : decode b_ES_init 1 = .ok (.invokespecial 1, 3) := by decide +kernel
theorem d_ES_init_4 : decode b_ES_init 4 = .ok (.aload_n 0, 1) := by decide +kernel
theorem d_ES_init_5 : decode b_ES_init 5 = .ok (.iconst 1, 1) := by decide +kernel
theorem d_ES_init_6 : decode b_ES_init 6 = .ok (.bipush 64, 2) := by decide +kernel
theorem d_ES_init_8 : decode b_ES_init 8 = .ok (.iload_n 1, 1) := by decide +kernel
theorem d_ES_init_9 : decode b_ES_init 9 = .ok (.invokestatic 7, 3) := by decide +kernel
theorem d_ES_init_12 : decode b_ES_init 12 = .ok (.invokestatic 13, 3) := by decide +kernel
theorem d_ES_init_15 : decode b_ES_init 15 = .ok (.putfield 16, 3) := by decide +kernel
theorem d_ES_init_18 : decode b_ES_init 18 = .ok (.iconst 1, 1) := by decide +kernel
theorem d_ES_init_19 : decode b_ES_init 19 = .ok (.sipush 2000, 3) := by decide +kernel
theorem d_ES_init_22 : decode b_ES_init 22 = .ok (.iload_n 2, 1) := by decide +kernel
theorem d_ES_init_23 : decode b_ES_init 23 = .ok (.invokestatic 7, 3) := by decide +kernel
theorem d_ES_init_26 : decode b_ES_init 26 = .ok (.invokestatic 13, 3) := by decide +kernel
theorem d_ES_init_29 : decode b_ES_init 29 = .ok (.aload_n 0, 1) := by decide +kernel
theorem d_ES_init_30 : decode b_ES_init 30 = .ok (.getfield 16, 3) := by decide +kernel
theorem d_ES_init_33 : decode b_ES_init 33 = .ok (.idiv, 1) := by decide +kernel
theorem d_ES_init_34 : decode b_ES_init 34 = .ok (.aload_n 0, 1) := by decide +kernel
theorem d_ES_init_35 : decode b_ES_init 35 = .ok (.getfield 16, 3) := by decide +kernel
theorem d_ES_init_38 : decode b_ES_init 38 = .ok (.imul, 1) := by decide +kernel
theorem d_ES_init_39 : decode b_ES_init 39 = .ok (.istore_n 3, 1) := by decide +kernel
theorem d_ES_init_40 : decode b_ES_init 40 = .ok (.aload_n 0, 1) := by decide +kernel
theorem d_ES_init_41 : decode b_ES_init 41 = .ok (.iload_n 3, 1) := by decide +kernel
theorem d_ES_init_42 : decode b_ES_init 42 = .ok (.aload_n 0, 1) := by decide +kernel
theorem d_ES_init_43 : decode b_ES_init 43 = .ok (.getfield 16, 3) := by decide +kernel
theorem d_ES_init_46 : decode b_ES_init 46 = .ok (.iadd, 1) := by decide +kernel
theorem d_ES_init_47 : decode b_ES_init 47 = .ok (.putfield 22, 3) := by decide +kernel
theorem d_ES_init_50 : decode b_ES_init 50 = .ok (.aload_n 0, 1) := by decide +kernel
theorem d_ES_init_51 : decode b_ES_init 51 = .ok (.aload_n 0, 1) := by decide +kernel
theorem d_ES_init_52 : decode b_ES_init 52 = .ok (.getfield 16, 3) := by decide +kernel
theorem d_ES_init_55 : decode b_ES_init 55 = .ok (.newarray .int, 2) := by decide +kernel
theorem d_ES_init_57 : decode b_ES_init 57 = .ok (.putfield 25, 3) := by decide +kernel
theorem d_ES_init_60 : decode b_ES_init 60 = .ok (.aload_n 0, 1) := by decide +kernel
theorem d_ES_init_61 : decode b_ES_init 61 = .ok (.aload_n 0, 1) := by decide +kernel
theorem d_ES_init_62 : decode b_ES_init 62 = .ok (.getfield 16, 3) := by decide +kernel
theorem d_ES_init_65 : decode b_ES_init 65 = .ok (.newarray .int, 2) := by decide +kernel
theorem d_ES_init_67 : decode b_ES_init 67 = .ok (.putfield 29, 3) := by decide +kernel
theorem d_ES_init_70 : decode b_ES_init 70 = .ok (.aload_n 0, 1) := by decide +kernel
theorem d_ES_init_71 : decode b_ES_init 71 = .ok (.aload_n 0, 1) := by decide +kernel
theorem d_ES_init_72 : decode b_ES_init 72 = .ok (.getfield 16, 3) := by decide +kernel
theorem d_ES_init_75 : decode b_ES_init 75 = .ok (.newarray .int, 2) := by decide +kernel
theorem d_ES_init_77 : decode b_ES_init 77 = .ok (.putfield 32, 3) := by decide +kernel
theorem d_ES_init_80 : decode b_ES_init 80 = .ok (.aload_n 0, 1) := by decide +kernel
theorem d_ES_init_81 : decode b_ES_init 81 = .ok (.iload_n 3, 1) := by decide +kernel
theorem d_ES_init_82 : decode b_ES_init 82 = .ok (.newarray .int, 2) := by decide +kernel
theorem d_ES_init_84 : decode b_ES_init 84 = .ok (.putfield 35, 3) := by decide +kernel
theorem d_ES_init_87 : decode b_ES_init 87 = .ok (.aload_n 0, 1) := by decide +kernel
theorem d_ES_init_88 : decode b_ES_init 88 = .ok (.iload_n 3, 1) := by decide +kernel
theorem d_ES_init_89 : decode b_ES_init 89 = .ok (.newarray .int, 2) := by decide +kernel
theorem d_ES_init_91 : decode b_ES_init 91 = .ok (.putfield 38, 3) := by decide +kernel
theorem d_ES_init_94 : decode b_ES_init 94 = .ok (.iload_n 3, 1) := by decide +kernel
theorem d_ES_init_95 : decode b_ES_init 95 = .ok (.aload_n 0, 1) := by decide +kernel
theorem d_ES_init_96 : decode b_ES_init 96 = .ok (.getfield 16, 3) := by decide +kernel
theorem d_ES_init_99 : decode b_ES_init 99 = .ok (.idiv, 1) := by decide +kernel
theorem d_ES_init_100 : decode b_ES_init 100 = .ok (.iconst 1, 1) := by decide +kernel
theorem d_ES_init_101 : decode b_ES_init 101 = .ok (.iadd, 1) := by decide +kernel
theorem d_ES_init_102 : decode b_ES_init 102 = .ok (.istore 4, 2) := by decide +kernel
theorem d_ES_init_104 : decode b_ES_init 104 = .ok (.aload_n 0, 1) := by decide +kernel
theorem d_ES_init_105 : decode b_ES_init 105 = .ok (.iload 4, 2) := by decide +kernel
theorem d_ES_init_107 : decode b_ES_init 107 = .ok (.newarray .int, 2) := by decide +kernel
theorem d_ES_init_109 : decode b_ES_init 109 = .ok (.putfield 41, 3) := by decide +kernel
theorem d_ES_init_112 : decode b_ES_init 112 = .ok (.aload_n 0, 1) := by decide +kernel
theorem d_ES_init_113 : decode b_ES_init 113 = .ok (.iload 4, 2) := by decide +kernel
theorem d_ES_init_115 : decode b_ES_init 115 = .ok (.newarray .int, 2) := by decide +kernel
theorem d_ES_init_117 : decode b_ES_init 117 = .ok (.putfield 44, 3) := by decide +kernel
theorem d_ES_init_120 : decode b_ES_init 120 = .ok (.iconst 1, 1) := by decide +kernel
theorem d_ES_init_121 : decode b_ES_init 121 = .ok (.istore 5, 2) := by decide +kernel
theorem d_ES_init_123 : decode b_ES_init 123 = .ok (.iload 5, 2) := by decide +kernel
theorem d_ES_init_125 : decode b_ES_init 125 = .ok (.iload 4, 2) := by decide +kernel
theorem d_ES_init_127 : decode b_ES_init 127 = .ok (.if_icmp .ge 12, 3) := by decide +kernel
theorem d_ES_init_130 : decode b_ES_init 130 = .ok (.iload 5, 2) := by decide +kernel
theorem d_ES_init_132 : decode b_ES_init 132 = .ok (.iconst 2, 1) := by decide +kernel
theorem d_ES_init_133 : decode b_ES_init 133 = .ok (.imul, 1) := by decide +kernel
theorem d_ES_init_134 : decode b_ES_init 134 = .ok (.istore 5, 2) := by decide +kernel
theorem d_ES_init_136 : decode b_ES_init 136 = .ok (.goto (-13), 3) := by decide +kernel
theorem d_ES_init_139 : decode b_ES_init 139 = .ok (.aload_n 0, 1) := by decide +kernel
theorem d_ES_init_140 : decode b_ES_init 140 = .ok (.iconst 2, 1) := by decide +kernel
theorem d_ES_init_141 : decode b_ES_init 141 = .ok (.iload 5, 2) := by decide +kernel
theorem d_ES_init_143 : decode b_ES_init 143 = .ok (.imul, 1) := by decide +kernel
theorem d_ES_init_144 : decode b_ES_init 144 = .ok (.newarray .int, 2) := by decide +kernel
theorem d_ES_init_146 : decode b_ES_init 146 = .ok (.putfield 47, 3) := by decide +kernel
theorem d_ES_init_149 : decode b_ES_init 149 = .ok (.return_, 1) := by decide +kernel
theorem d_ES_reset_0 : decode b_ES_reset 0 = .ok (.aload_n 0, 1) := by decide +kernel
theorem d_ES_reset_1 : decode b_ES_reset 1 = .ok (.iconst 0, 1) := by decide +kernel
theorem d_ES_reset_2 : decode b_ES_reset 2 = .ok (.putfield 50, 3) := by decide +kernel
theorem d_ES_reset_5 : decode b_ES_reset 5 = .ok (.aload_n 0, 1) := by decide +kernel
theorem d_ES_reset_6 : decode b_ES_reset 6 = .ok (.iconst 0, 1) := by decide +kernel
theorem d_ES_reset_7 : decode b_ES_reset 7 = .ok (.putfield 53, 3) := by decide +kernel
theorem d_ES_reset_10 : decode b_ES_reset 10 = .ok (.aload_n 0, 1) := by decide +kernel
theorem d_ES_reset_11 : decode b_ES_reset 11 = .ok (.iconst 0, 1) := by decide +kernel
theorem d_ES_reset_12 : decode b_ES_reset 12 = .ok (.putfield 56, 3) := by decide +kernel
theorem d_ES_reset_15 : decode b_ES_reset 15 = .ok (.aload_n 0, 1) := by decide +kernel
theorem d_ES_reset_16 : decode b_ES_reset 16 = .ok (.iconst 0, 1) := by decide +kernel
theorem d_ES_reset_17 : decode b_ES_reset 17 = .ok (.putfield 59, 3) := by decide +kernel
theorem d_ES_reset_20 : decode b_ES_reset 20 = .ok (.aload_n 0, 1) := by decide +kernel
theorem d_ES_reset_21 : decode b_ES_reset 21 = .ok (.iconst 0, 1) := by decide +kernel
theorem d_ES_reset_22 : decode b_ES_reset 22 = .ok (.putfield 63, 3) := by decide +kernel
theorem d_ES_reset_25 : decode b_ES_reset 25 = .ok (.aload_n 0, 1) := by decide +kernel
theorem d_ES_reset_26 : decode b_ES_reset 26 = .ok (.iconst 0, 1) := by decide +kernel
theorem d_ES_reset_27 : decode b_ES_reset 27 = .ok (.putfield 66, 3) := by decide +kernel
theorem d_ES_reset_30 : decode b_ES_reset 30 = .ok (.aload_n 0, 1) := by decide +kernel
theorem d_ES_reset_31 : decode b_ES_reset 31 = .ok (.iconst 0, 1) := by decide +kernel
theorem d_ES_reset_32 : decode b_ES_reset 32 = .ok (.putfield 69, 3) := by decide +kernel
theorem d_ES_reset_35 : decode b_ES_reset 35 = .ok (.return_, 1) := by decide +kernel
theorem d_ES_isBefore_0 : decode b_ES_isBefore 0 = .ok (.aload_n 0, 1) := by decide +kernel
theorem d_ES_isBefore_1 : decode b_ES_isBefore 1 = .ok (.getfield 25, 3) := by decide +kernel
theorem d_ES_isBefore_4 : decode b_ES_isBefore 4 = .ok (.iload_n 1, 1) := by decide +kernel
theorem d_ES_isBefore_5 : decode b_ES_isBefore 5 = .ok (.iaload, 1) := by decide +kernel
theorem d_ES_isBefore_6 : decode b_ES_isBefore 6 = .ok (.aload_n 0, 1) := by decide +kernel
theorem d_ES_isBefore_7 : decode b_ES_isBefore 7 = .ok (.getfield 25, 3) := by decide +kernel
theorem d_ES_isBefore_10 : decode b_ES_isBefore 10 = .ok (.iload_n 2, 1) := by decide +kernel
theorem d_ES_isBefore_11 : decode b_ES_isBefore 11 = .ok (.iaload, 1) := by decide +kernel
theorem d_ES_isBefore_12 : decode b_ES_isBefore 12 = .ok (.if_icmp .eq 26, 3) := by decide +kernel
theorem d_ES_isBefore_15 : decode b_ES_isBefore 15 = .ok (.aload_n 0, 1) := by decide +kernel
theorem d_ES_isBefore_16 : decode b_ES_isBefore 16 = .ok (.getfield 25, 3) := by decide +kernel
theorem d_ES_isBefore_19 : decode b_ES_isBefore 19 = .ok (.iload_n 1, 1) := by decide +kernel
theorem d_ES_isBefore_20 : decode b_ES_isBefore 20 = .ok (.iaload, 1) := by decide +kernel
theorem d_ES_isBefore_21 : decode b_ES_isBefore 21 = .ok (.aload_n 0, 1) := by decide +kernel
theorem d_ES_isBefore_22 : decode b_ES_isBefore 22 = .ok (.getfield 25, 3) := by decide +kernel
theorem d_ES_isBefore_25 : decode b_ES_isBefore 25 = .ok (.iload_n 2, 1) := by decide +kernel
theorem d_ES_isBefore_26 : decode b_ES_isBefore 26 = .ok (.iaload, 1) := by decide +kernel
theorem d_ES_isBefore_27 : decode b_ES_isBefore 27 = .ok (.if_icmp .ge 7, 3) := by decide +kernel
theorem d_ES_isBefore_30 : decode b_ES_isBefore 30 = .ok (.iconst 1, 1) := by decide +kernel
theorem d_ES_isBefore_31 : decode b_ES_isBefore 31 = .ok (.goto 27, 3) := by decide +kernel
theorem d_ES_isBefore_34 : decode b_ES_isBefore 34 = .ok (.iconst 0, 1) := by decide +kernel
theorem d_ES_isBefore_35 : decode b_ES_isBefore 35 = .ok (.goto 23, 3) := by decide +kernel
theorem d_ES_isBefore_38 : decode b_ES_isBefore 38 = .ok (.aload_n 0, 1) := by decide +kernel
theorem d_ES_isBefore_39 : decode b_ES_isBefore 39 = .ok (.getfield 32, 3) := by decide +kernel
theorem d_ES_isBefore_42 : decode b_ES_isBefore 42 = .ok (.iload_n 1, 1) := by decide +kernel
theorem d_ES_isBefore_43 : decode b_ES_isBefore 43 = .ok (.iaload, 1) := by decide +kernel
theorem d_ES_isBefore_44 : decode b_ES_isBefore 44 = .ok (.aload_n 0, 1) := by decide +kernel
theorem d_ES_isBefore_45 : decode b_ES_isBefore 45 = .ok (.getfield 32, 3) := by decide +kernel
theorem d_ES_isBefore_48 : decode b_ES_isBefore 48 = .ok (.iload_n 2, 1) := by decide +kernel
theorem d_ES_isBefore_49 : decode b_ES_isBefore 49 = .ok (.iaload, 1) := by decide +kernel
theorem d_ES_isBefore_50 : decode b_ES_isBefore 50 = .ok (.if_icmp .ge 7, 3) := by decide +kernel
theorem d_ES_isBefore_53 : decode b_ES_isBefore 53 = .ok (.iconst 1, 1) := by decide +kernel
theorem d_ES_isBefore_54 : decode b_ES_isBefore 54 = .ok (.goto 4, 3) := by decide +kernel
theorem d_ES_isBefore_57 : decode b_ES_isBefore 57 = .ok (.iconst 0, 1) := by decide +kernel
theorem d_ES_isBefore_58 : decode b_ES_isBefore 58 = .ok (.ireturn, 1) := by decide +kernel
theorem d_ES_swap_0 : decode b_ES_swap 0 = .ok (.aload_n 0, 1) := by decide +kernel
theorem d_ES_swap_1 : decode b_ES_swap 1 = .ok (.getfield 25, 3) := by decide +kernel
theorem d_ES_swap_4 : decode b_ES_swap 4 = .ok (.iload_n 1, 1) := by decide +kernel
theorem d_ES_swap_5 : decode b_ES_swap 5 = .ok (.iaload, 1) := by decide +kernel
theorem d_ES_swap_6 : decode b_ES_swap 6 = .ok (.istore_n 3, 1) := by decide +kernel
theorem d_ES_swap_7 : decode b_ES_swap 7 = .ok (.aload_n 0, 1) := by decide +kernel
theorem d_ES_swap_8 : decode b_ES_swap 8 = .ok (.getfield 25, 3) := by decide +kernel
theorem d_ES_swap_11 : decode b_ES_swap 11 = .ok (.iload_n 1, 1) := by decide +kernel
theorem d_ES_swap_12 : decode b_ES_swap 12 = .ok (.aload_n 0, 1) := by decide +kernel
theorem d_ES_swap_13 : decode b_ES_swap 13 = .ok (.getfield 25, 3) := by decide +kernel
theorem d_ES_swap_16 : decode b_ES_swap 16 = .ok (.iload_n 2, 1) := by decide +kernel
theorem d_ES_swap_17 : decode b_ES_swap 17 = .ok (.iaload, 1) := by decide +kernel
theorem d_ES_swap_18 : decode b_ES_swap 18 = .ok (.iastore, 1) := by decide +kernel
theorem d_ES_swap_19 : decode b_ES_swap 19 = .ok (.aload_n 0, 1) := by decide +kernel
theorem d_ES_swap_20 : decode b_ES_swap 20 = .ok (.getfield 25, 3) := by decide +kernel
theorem d_ES_swap_23 : decode b_ES_swap 23 = .ok (.iload_n 2, 1) := by decide +kernel
theorem d_ES_swap_24 : decode b_ES_swap 24 = .ok (.iload_n 3, 1) := by decide +kernel
theorem d_ES_swap_25 : decode b_ES_swap 25 = .ok (.iastore, 1) := by decide +kernel
theorem d_ES_swap_26 : decode b_ES_swap 26 = .ok (.aload_n 0, 1) := by decide +kernel
theorem d_ES_swap_27 : decode b_ES_swap 27 = .ok (.getfield 29, 3) := by decide +kernel
theorem d_ES_swap_30 : decode b_ES_swap 30 = .ok (.iload_n 1, 1) := by decide +kernel
theorem d_ES_swap_31 : decode b_ES_swap 31 = .ok (.iaload, 1) := by decide +kernel
theorem d_ES_swap_32 : decode b_ES_swap 32 = .ok (.istore_n 3, 1) := by decide +kernel
theorem d_ES_swap_33 : decode b_ES_swap 33 = .ok (.aload_n 0, 1) := by decide +kernel
theorem d_ES_swap_34 : decode b_ES_swap 34 = .ok (.getfield 29, 3) := by decide +kernel
theorem d_ES_swap_37 : decode b_ES_swap 37 = .ok (.iload_n 1, 1) := by decide +kernel
theorem d_ES_swap_38 : decode b_ES_swap 38 = .ok (.aload_n 0, 1) := by decide +kernel
theorem d_ES_swap_39 : decode b_ES_swap 39 = .ok (.getfield 29, 3) := by decide +kernel
theorem d_ES_swap_42 : decode b_ES_swap 42 = .ok (.iload_n 2, 1) := by decide +kernel
theorem d_ES_swap_43 : decode b_ES_swap 43 = .ok (.iaload, 1) := by decide +kernel
theorem d_ES_swap_44 : decode b_ES_swap 44 = .ok (.iastore, 1) := by decide +kernel
theorem d_ES_swap_45 : decode b_ES_swap 45 = .ok (.aload_n 0, 1) := by decide +kernel
theorem d_ES_swap_46 : decode b_ES_swap 46 = .ok (.getfield 29, 3) := by decide +kernel
theorem d_ES_swap_49 : decode b_ES_swap 49 = .ok (.iload_n 2, 1) := by decide +kernel
theorem d_ES_swap_50 : decode b_ES_swap 50 = .ok (.iload_n 3, 1) := by decide +kernel
theorem d_ES_swap_51 : decode b_ES_swap 51 = .ok (.iastore, 1) := by decide +kernel
theorem d_ES_swap_52 : decode b_ES_swap 52 = .ok (.aload_n 0, 1) := by decide +kernel
theorem d_ES_swap_53 : decode b_ES_swap 53 = .ok (.getfield 32, 3) := by decide +kernel
theorem d_ES_swap_56 : decode b_ES_swap 56 = .ok (.iload_n 1, 1) := by decide +kernel
theorem d_ES_swap_57 : decode b_ES_swap 57 = .ok (.iaload, 1) := by decide +kernel
theorem d_ES_swap_58 : decode b_ES_swap 58 = .ok (.istore_n 3, 1) := by decide +kernel
theorem d_ES_swap_59 : decode b_ES_swap 59 = .ok (.aload_n 0, 1) := by decide +kernel
theorem d_ES_swap_60 : decode b_ES_swap 60 = .ok (.getfield 32, 3) := by decide +kernel
theorem d_ES_swap_63 : decode b_ES_swap 63 = .ok (.iload_n 1, 1) := by decide +kernel
theorem d_ES_swap_64 : decode b_ES_swap 64 = .ok (.aload_n 0, 1) := by decide +kernel
theorem d_ES_swap_65 : decode b_ES_swap 65 = .ok (.getfield 32, 3) := by decide +kernel
theorem d_ES_swap_68 : decode b_ES_swap 68 = .ok (.iload_n 2, 1) := by decide +kernel
theorem d_ES_swap_69 : decode b_ES_swap 69 = .ok (.iaload, 1) := by decide +kernel
theorem d_ES_swap_70 : decode b_ES_swap 70 = .ok (.iastore, 1) := by decide +kernel
theorem d_ES_swap_71 : decode b_ES_swap 71 = .ok (.aload_n 0, 1) := by decide +kernel
theorem d_ES_swap_72 : decode b_ES_swap 72 = .ok (.getfield 32, 3) := by decide +kernel
theorem d_ES_swap_75 : decode b_ES_swap 75 = .ok (.iload_n 2, 1) := by decide +kernel
theorem d_ES_swap_76 : decode b_ES_swap 76 = .ok (.iload_n 3, 1) := by decide +kernel
theorem d_ES_swap_77 : decode b_ES_swap 77 = .ok (.iastore, 1) := by decide +kernel
theorem d_ES_swap_78 : decode b_ES_swap 78 = .ok (.return_, 1) := by decide +kernel
theorem d_ES_sink_0 : decode b_ES_sink 0 = .ok (.iload_n 1, 1) := by decide +kernel
theorem d_ES_sink_1 : decode b_ES_sink 1 = .ok (.istore_n 3, 1) := by decide +kernel
theorem d_ES_sink_2 : decode b_ES_sink 2 = .ok (.iconst 2, 1) := by decide +kernel
theorem d_ES_sink_3 : decode b_ES_sink 3 = .ok (.iload_n 3, 1) := by decide +kernel
theorem d_ES_sink_4 : decode b_ES_sink 4 = .ok (.imul, 1) := by decide +kernel
theorem d_ES_sink_5 : decode b_ES_sink 5 = .ok (.iconst 1, 1) := by decide +kernel
theorem d_ES_sink_6 : decode b_ES_sink 6 = .ok (.iadd, 1) := by decide +kernel
theorem d_ES_sink_7 : decode b_ES_sink 7 = .ok (.istore 4, 2) := by decide +kernel
theorem d_ES_sink_9 : decode b_ES_sink 9 = .ok (.iload 4, 2) := by decide +kernel
theorem d_ES_sink_11 : decode b_ES_sink 11 = .ok (.iload_n 2, 1) := by decide +kernel
theorem d_ES_sink_12 : decode b_ES_sink 12 = .ok (.if_icmp .ge 58, 3) := by decide +kernel
theorem d_ES_sink_15 : decode b_ES_sink 15 = .ok (.iload 4, 2) := by decide +kernel
theorem d_ES_sink_17 : decode b_ES_sink 17 = .ok (.iconst 1, 1) := by decide +kernel
theorem d_ES_sink_18 : decode b_ES_sink 18 = .ok (.iadd, 1) := by decide +kernel
theorem d_ES_sink_19 : decode b_ES_sink 19 = .ok (.iload_n 2, 1) := by decide +kernel
theorem d_ES_sink_20 : decode b_ES_sink 20 = .ok (.if_icmp .ge 19, 3) := by decide +kernel
theorem d_ES_sink_23 : decode b_ES_sink 23 = .ok (.aload_n 0, 1) := by decide +kernel
theorem d_ES_sink_24 : decode b_ES_sink 24 = .ok (.iload 4, 2) := by decide +kernel
theorem d_ES_sink_26 : decode b_ES_sink 26 = .ok (.iload 4, 2) := by decide +kernel
theorem d_ES_sink_28 : decode b_ES_sink 28 = .ok (.iconst 1, 1) := by decide +kernel
theorem d_ES_sink_29 : decode b_ES_sink 29 = .ok (.iadd, 1) := by decide +kernel
theorem d_ES_sink_30 : decode b_ES_sink 30 = .ok (.invokevirtual 72, 3) := by decide +kernel
theorem d_ES_sink_33 : decode b_ES_sink 33 = .ok (.ifCond .eq 6, 3) := by decide +kernel
theorem d_ES_sink_36 : decode b_ES_sink 36 = .ok (.iinc 4 1, 3) := by decide +kernel
theorem d_ES_sink_39 : decode b_ES_sink 39 = .ok (.aload_n 0, 1) := by decide +kernel
theorem d_ES_sink_40 : decode b_ES_sink 40 = .ok (.iload_n 3, 1) := by decide +kernel
theorem d_ES_sink_41 : decode b_ES_sink 41 = .ok (.iload 4, 2) := by decide +kernel
theorem d_ES_sink_43 : decode b_ES_sink 43 = .ok (.invokevirtual 72, 3) := by decide +kernel
theorem d_ES_sink_46 : decode b_ES_sink 46 = .ok (.ifCond .ne 4, 3) := by decide +kernel
theorem d_ES_sink_49 : decode b_ES_sink 49 = .ok (.return_, 1) := by decide +kernel
theorem d_ES_sink_50 : decode b_ES_sink 50 = .ok (.aload_n 0, 1) := by decide +kernel
theorem d_ES_sink_51 : decode b_ES_sink 51 = .ok (.iload_n 3, 1) := by decide +kernel
theorem d_ES_sink_52 : decode b_ES_sink 52 = .ok (.iload 4, 2) := by decide +kernel
theorem d_ES_sink_54 : decode b_ES_sink 54 = .ok (.invokevirtual 76, 3) := by decide +kernel
theorem d_ES_sink_57 : decode b_ES_sink 57 = .ok (.iload 4, 2) := by decide +kernel
theorem d_ES_sink_59 : decode b_ES_sink 59 = .ok (.istore_n 3, 1) := by decide +kernel
theorem d_ES_sink_60 : decode b_ES_sink 60 = .ok (.iconst 2, 1) := by decide +kernel
theorem d_ES_sink_61 : decode b_ES_sink 61 = .ok (.iload_n 3, 1) := by decide +kernel
theorem d_ES_sink_62 : decode b_ES_sink 62 = .ok (.imul, 1) := by decide +kernel
theorem d_ES_sink_63 : decode b_ES_sink 63 = .ok (.iconst 1, 1) := by decide +kernel
theorem d_ES_sink_64 : decode b_ES_sink 64 = .ok (.iadd, 1) := by decide +kernel
theorem d_ES_sink_65 : decode b_ES_sink 65 = .ok (.istore 4, 2) := by decide +kernel
theorem d_ES_sink_67 : decode b_ES_sink 67 = .ok (.goto (-58), 3) := by decide +kernel
theorem d_ES_sink_70 : decode b_ES_sink 70 = .ok (.return_, 1) := by decide +kernel
theorem d_ES_sort_0 : decode b_ES_sort 0 = .ok (.aload_n 0, 1) := by decide +kernel
theorem d_ES_sort_1 : decode b_ES_sort 1 = .ok (.getfield 50, 3) := by decide +kernel
theorem d_ES_sort_4 : decode b_ES_sort 4 = .ok (.iconst 2, 1) := by decide +kernel
theorem d_ES_sort_5 : decode b_ES_sort 5 = .ok (.idiv, 1) := by decide +kernel
theorem d_ES_sort_6 : decode b_ES_sort 6 = .ok (.iconst 1, 1) := by decide +kernel
theorem d_ES_sort_7 : decode b_ES_sort 7 = .ok (.isub, 1) := by decide +kernel
theorem d_ES_sort_8 : decode b_ES_sort 8 = .ok (.istore_n 1, 1) := by decide +kernel
theorem d_ES_sort_9 : decode b_ES_sort 9 = .ok (.iload_n 1, 1) := by decide +kernel
theorem d_ES_sort_10 : decode b_ES_sort 10 = .ok (.ifCond .lt 18, 3) := by decide +kernel
theorem d_ES_sort_13 : decode b_ES_sort 13 = .ok (.aload_n 0, 1) := by decide +kernel
theorem d_ES_sort_14 : decode b_ES_sort 14 = .ok (.iload_n 1, 1) := by decide +kernel
theorem d_ES_sort_15 : decode b_ES_sort 15 = .ok (.aload_n 0, 1) := by decide +kernel
theorem d_ES_sort_16 : decode b_ES_sort 16 = .ok (.getfield 50, 3) := by decide +kernel
theorem d_ES_sort_19 : decode b_ES_sort 19 = .ok (.invokevirtual 80, 3) := by decide +kernel
theorem d_ES_sort_22 : decode b_ES_sort 22 = .ok (.iinc 1 (-1), 3) := by decide +kernel
theorem d_ES_sort_25 : decode b_ES_sort 25 = .ok (.goto (-16), 3) := by decide +kernel
theorem d_ES_sort_28 : decode b_ES_sort 28 = .ok (.aload_n 0, 1) := by decide +kernel
theorem d_ES_sort_29 : decode b_ES_sort 29 = .ok (.getfield 50, 3) := by decide +kernel
theorem d_ES_sort_32 : decode b_ES_sort 32 = .ok (.iconst 1, 1) := by decide +kernel
theorem d_ES_sort_33 : decode b_ES_sort 33 = .ok (.isub, 1) := by decide +kernel
theorem d_ES_sort_34 : decode b_ES_sort 34 = .ok (.istore_n 1, 1) := by decide +kernel
theorem d_ES_sort_35 : decode b_ES_sort 35 = .ok (.iload_n 1, 1) := by decide +kernel
theorem d_ES_sort_36 : decode b_ES_sort 36 = .ok (.ifCond .le 21, 3) := by decide +kernel
theorem d_ES_sort_39 : decode b_ES_sort 39 = .ok (.aload_n 0, 1) := by decide +kernel
theorem d_ES_sort_40 : decode b_ES_sort 40 = .ok (.iconst 0, 1) := by decide +kernel
theorem d_ES_sort_41 : decode b_ES_sort 41 = .ok (.iload_n 1, 1) := by decide +kernel
theorem d_ES_sort_42 : decode b_ES_sort 42 = .ok (.invokevirtual 76, 3) := by decide +kernel
theorem d_ES_sort_45 : decode b_ES_sort 45 = .ok (.aload_n 0, 1) := by decide +kernel
theorem d_ES_sort_46 : decode b_ES_sort 46 = .ok (.iconst 0, 1) := by decide +kernel
theorem d_ES_sort_47 : decode b_ES_sort 47 = .ok (.iload_n 1, 1) := by decide +kernel
theorem d_ES_sort_48 : decode b_ES_sort 48 = .ok (.invokevirtual 80, 3) := by decide +kernel
theorem d_ES_sort_51 : decode b_ES_sort 51 = .ok (.iinc 1 (-1), 3) := by decide +kernel
theorem d_ES_sort_54 : decode b_ES_sort 54 = .ok (.goto (-19), 3) := by decide +kernel
theorem d_ES_sort_57 : decode b_ES_sort 57 = .ok (.return_, 1) := by decide +kernel
theorem d_ES_spill_0 : decode b_ES_spill 0 = .ok (.aload_n 0, 1) := by decide +kernel
theorem d_ES_spill_1 : decode b_ES_spill 1 = .ok (.invokevirtual 83, 3) := by decide +kernel
theorem d_ES_spill_4 : decode b_ES_spill 4 = .ok (.aload_n 0, 1) := by decide +kernel
theorem d_ES_spill_5 : decode b_ES_spill 5 = .ok (.getfield 41, 3) := by decide +kernel
theorem d_ES_spill_8 : decode b_ES_spill 8 = .ok (.aload_n 0, 1) := by decide +kernel
theorem d_ES_spill_9 : decode b_ES_spill 9 = .ok (.getfield 63, 3) := by decide +kernel
theorem d_ES_spill_12 : decode b_ES_spill 12 = .ok (.aload_n 0, 1) := by decide +kernel
theorem d_ES_spill_13 : decode b_ES_spill 13 = .ok (.getfield 53, 3) := by decide +kernel
theorem d_ES_spill_16 : decode b_ES_spill 16 = .ok (.iastore, 1) := by decide +kernel
theorem d_ES_spill_17 : decode b_ES_spill 17 = .ok (.iconst 0, 1) := by decide +kernel
theorem d_ES_spill_18 : decode b_ES_spill 18 = .ok (.istore_n 1, 1) := by decide +kernel
theorem d_ES_spill_19 : decode b_ES_spill 19 = .ok (.iload_n 1, 1) := by decide +kernel
theorem d_ES_spill_20 : decode b_ES_spill 20 = .ok (.aload_n 0, 1) := by decide +kernel
theorem d_ES_spill_21 : decode b_ES_spill 21 = .ok (.getfield 50, 3) := by decide +kernel
theorem d_ES_spill_24 : decode b_ES_spill 24 = .ok (.if_icmp .ge 49, 3) := by decide +kernel
theorem d_ES_spill_27 : decode b_ES_spill 27 = .ok (.aload_n 0, 1) := by decide +kernel
theorem d_ES_spill_28 : decode b_ES_spill 28 = .ok (.getfield 35, 3) := by decide +kernel
theorem d_ES_spill_31 : decode b_ES_spill 31 = .ok (.aload_n 0, 1) := by decide +kernel
theorem d_ES_spill_32 : decode b_ES_spill 32 = .ok (.getfield 53, 3) := by decide +kernel
theorem d_ES_spill_35 : decode b_ES_spill 35 = .ok (.aload_n 0, 1) := by decide +kernel
theorem d_ES_spill_36 : decode b_ES_spill 36 = .ok (.getfield 25, 3) := by decide +kernel
theorem d_ES_spill_39 : decode b_ES_spill 39 = .ok (.iload_n 1, 1) := by decide +kernel
theorem d_ES_spill_40 : decode b_ES_spill 40 = .ok (.iaload, 1) := by decide +kernel
theorem d_ES_spill_41 : decode b_ES_spill 41 = .ok (.iastore, 1) := by decide +kernel
theorem d_ES_spill_42 : decode b_ES_spill 42 = .ok (.aload_n 0, 1) := by decide +kernel
theorem d_ES_spill_43 : decode b_ES_spill 43 = .ok (.getfield 38, 3) := by decide +kernel
theorem d_ES_spill_46 : decode b_ES_spill 46 = .ok (.aload_n 0, 1) := by decide +kernel
theorem d_ES_spill_47 : decode b_ES_spill 47 = .ok (.getfield 53, 3) := by decide +kernel
theorem d_ES_spill_50 : decode b_ES_spill 50 = .ok (.aload_n 0, 1) := by decide +kernel
theorem d_ES_spill_51 : decode b_ES_spill 51 = .ok (.getfield 29, 3) := by decide +kernel
theorem d_ES_spill_54 : decode b_ES_spill 54 = .ok (.iload_n 1, 1) := by decide +kernel
theorem d_ES_spill_55 : decode b_ES_spill 55 = .ok (.iaload, 1) := by decide +kernel
theorem d_ES_spill_56 : decode b_ES_spill 56 = .ok (.iastore, 1) := by decide +kernel
theorem d_ES_spill_57 : decode b_ES_spill 57 = .ok (.aload_n 0, 1) := by decide +kernel
theorem d_ES_spill_58 : decode b_ES_spill 58 = .ok (.dup, 1) := by decide +kernel
theorem d_ES_spill_59 : decode b_ES_spill 59 = .ok (.getfield 53, 3) := by decide +kernel
theorem d_ES_spill_62 : decode b_ES_spill 62 = .ok (.iconst 1, 1) := by decide +kernel
theorem d_ES_spill_63 : decode b_ES_spill 63 = .ok (.iadd, 1) := by decide +kernel
theorem d_ES_spill_64 : decode b_ES_spill 64 = .ok (.putfield 53, 3) := by decide +kernel
theorem d_ES_spill_67 : decode b_ES_spill 67 = .ok (.iinc 1 1, 3) := by decide +kernel
theorem d_ES_spill_70 : decode b_ES_spill 70 = .ok (.goto (-51), 3) := by decide +kernel
theorem d_ES_spill_73 : decode b_ES_spill 73 = .ok (.aload_n 0, 1) := by decide +kernel
theorem d_ES_spill_74 : decode b_ES_spill 74 = .ok (.getfield 44, 3) := by decide +kernel
theorem d_ES_spill_77 : decode b_ES_spill 77 = .ok (.aload_n 0, 1) := by decide +kernel
theorem d_ES_spill_78 : decode b_ES_spill 78 = .ok (.getfield 63, 3) := by decide +kernel
theorem d_ES_spill_81 : decode b_ES_spill 81 = .ok (.aload_n 0, 1) := by decide +kernel
theorem d_ES_spill_82 : decode b_ES_spill 82 = .ok (.getfield 53, 3) := by decide +kernel
theorem d_ES_spill_85 : decode b_ES_spill 85 = .ok (.iastore, 1) := by decide +kernel
theorem d_ES_spill_86 : decode b_ES_spill 86 = .ok (.aload_n 0, 1) := by decide +kernel
theorem d_ES_spill_87 : decode b_ES_spill 87 = .ok (.dup, 1) := by decide +kernel
theorem d_ES_spill_88 : decode b_ES_spill 88 = .ok (.getfield 63, 3) := by decide +kernel
theorem d_ES_spill_91 : decode b_ES_spill 91 = .ok (.iconst 1, 1) := by decide +kernel
theorem d_ES_spill_92 : decode b_ES_spill 92 = .ok (.iadd, 1) := by decide +kernel
theorem d_ES_spill_93 : decode b_ES_spill 93 = .ok (.putfield 63, 3) := by decide +kernel
theorem d_ES_spill_96 : decode b_ES_spill 96 = .ok (.aload_n 0, 1) := by decide +kernel
theorem d_ES_spill_97 : decode b_ES_spill 97 = .ok (.iconst 0, 1) := by decide +kernel
theorem d_ES_spill_98 : decode b_ES_spill 98 = .ok (.putfield 50, 3) := by decide +kernel
theorem d_ES_spill_101 : decode b_ES_spill 101 = .ok (.return_, 1) := by decide +kernel
theorem d_ES_feed_0 : decode b_ES_feed 0 = .ok (.aload_n 0, 1) := by decide +kernel
theorem d_ES_feed_1 : decode b_ES_feed 1 = .ok (.getfield 59, 3) := by decide +kernel
theorem d_ES_feed_4 : decode b_ES_feed 4 = .ok (.ifCond .eq 6, 3) := by decide +kernel
theorem d_ES_feed_7 : decode b_ES_feed 7 = .ok (.bipush (-3), 2) := by decide +kernel
theorem d_ES_feed_9 : decode b_ES_feed 9 = .ok (.ireturn, 1) := by decide +kernel
theorem d_ES_feed_10 : decode b_ES_feed 10 = .ok (.aload_n 0, 1) := by decide +kernel
theorem d_ES_feed_11 : decode b_ES_feed 11 = .ok (.getfield 56, 3) := by decide +kernel
theorem d_ES_feed_14 : decode b_ES_feed 14 = .ok (.aload_n 0, 1) := by decide +kernel
theorem d_ES_feed_15 : decode b_ES_feed 15 = .ok (.getfield 22, 3) := by decide +kernel
theorem d_ES_feed_18 : decode b_ES_feed 18 = .ok (.if_icmp .ne 6, 3) := by decide +kernel
theorem d_ES_feed_21 : decode b_ES_feed 21 = .ok (.bipush (-2), 2) := by decide +kernel
theorem d_ES_feed_23 : decode b_ES_feed 23 = .ok (.ireturn, 1) := by decide +kernel
theorem d_ES_feed_24 : decode b_ES_feed 24 = .ok (.aload_n 0, 1) := by decide +kernel
theorem d_ES_feed_25 : decode b_ES_feed 25 = .ok (.getfield 50, 3) := by decide +kernel
theorem d_ES_feed_28 : decode b_ES_feed 28 = .ok (.aload_n 0, 1) := by decide +kernel
theorem d_ES_feed_29 : decode b_ES_feed 29 = .ok (.getfield 16, 3) := by decide +kernel
theorem d_ES_feed_32 : decode b_ES_feed 32 = .ok (.if_icmp .ne 7, 3) := by decide +kernel
theorem d_ES_feed_35 : decode b_ES_feed 35 = .ok (.aload_n 0, 1) := by decide +kernel
theorem d_ES_feed_36 : decode b_ES_feed 36 = .ok (.invokevirtual 86, 3) := by decide +kernel
theorem d_ES_feed_39 : decode b_ES_feed 39 = .ok (.aload_n 0, 1) := by decide +kernel
theorem d_ES_feed_40 : decode b_ES_feed 40 = .ok (.getfield 25, 3) := by decide +kernel
theorem d_ES_feed_43 : decode b_ES_feed 43 = .ok (.aload_n 0, 1) := by decide +kernel
theorem d_ES_feed_44 : decode b_ES_feed 44 = .ok (.getfield 50, 3) := by decide +kernel
theorem d_ES_feed_47 : decode b_ES_feed 47 = .ok (.iload_n 1, 1) := by decide +kernel
theorem d_ES_feed_48 : decode b_ES_feed 48 = .ok (.iastore, 1) := by decide +kernel
theorem d_ES_feed_49 : decode b_ES_feed 49 = .ok (.aload_n 0, 1) := by decide +kernel
theorem d_ES_feed_50 : decode b_ES_feed 50 = .ok (.getfield 29, 3) := by decide +kernel
theorem d_ES_feed_53 : decode b_ES_feed 53 = .ok (.aload_n 0, 1) := by decide +kernel
theorem d_ES_feed_54 : decode b_ES_feed 54 = .ok (.getfield 50, 3) := by decide +kernel
theorem d_ES_feed_57 : decode b_ES_feed 57 = .ok (.iload_n 2, 1) := by decide +kernel
theorem d_ES_feed_58 : decode b_ES_feed 58 = .ok (.iastore, 1) := by decide +kernel
theorem d_ES_feed_59 : decode b_ES_feed 59 = .ok (.aload_n 0, 1) := by decide +kernel
theorem d_ES_feed_60 : decode b_ES_feed 60 = .ok (.getfield 32, 3) := by decide +kernel
theorem d_ES_feed_63 : decode b_ES_feed 63 = .ok (.aload_n 0, 1) := by decide +kernel
theorem d_ES_feed_64 : decode b_ES_feed 64 = .ok (.getfield 50, 3) := by decide +kernel
theorem d_ES_feed_67 : decode b_ES_feed 67 = .ok (.aload_n 0, 1) := by decide +kernel
theorem d_ES_feed_68 : decode b_ES_feed 68 = .ok (.getfield 50, 3) := by decide +kernel
theorem d_ES_feed_71 : decode b_ES_feed 71 = .ok (.iastore, 1) := by decide +kernel
theorem d_ES_feed_72 : decode b_ES_feed 72 = .ok (.aload_n 0, 1) := by decide +kernel
theorem d_ES_feed_73 : decode b_ES_feed 73 = .ok (.dup, 1) := by decide +kernel
theorem d_ES_feed_74 : decode b_ES_feed 74 = .ok (.getfield 50, 3) := by decide +kernel
theorem d_ES_feed_77 : decode b_ES_feed 77 = .ok (.iconst 1, 1) := by decide +kernel
theorem d_ES_feed_78 : decode b_ES_feed 78 = .ok (.iadd, 1) := by decide +kernel
theorem d_ES_feed_79 : decode b_ES_feed 79 = .ok (.putfield 50, 3) := by decide +kernel
theorem d_ES_feed_82 : decode b_ES_feed 82 = .ok (.aload_n 0, 1) := by decide +kernel
theorem d_ES_feed_83 : decode b_ES_feed 83 = .ok (.dup, 1) := by decide +kernel
theorem d_ES_feed_84 : decode b_ES_feed 84 = .ok (.getfield 56, 3) := by decide +kernel
theorem d_ES_feed_87 : decode b_ES_feed 87 = .ok (.iconst 1, 1) := by decide +kernel
theorem d_ES_feed_88 : decode b_ES_feed 88 = .ok (.iadd, 1) := by decide +kernel
theorem d_ES_feed_89 : decode b_ES_feed 89 = .ok (.putfield 56, 3) := by decide +kernel
theorem d_ES_feed_92 : decode b_ES_feed 92 = .ok (.iconst 0, 1) := by decide +kernel
theorem d_ES_feed_93 : decode b_ES_feed 93 = .ok (.ireturn, 1) := by decide +kernel
theorem d_ES_feedMany_0 : decode b_ES_feedMany 0 = .ok (.iload 4, 2) := by decide +kernel
theorem d_ES_feedMany_2 : decode b_ES_feedMany 2 = .ok (.ifCond .lt 11, 3) := by decide +kernel
theorem d_ES_feedMany_5 : decode b_ES_feedMany 5 = .ok (.iload 4, 2) := by decide +kernel
theorem d_ES_feedMany_7 : decode b_ES_feedMany 7 = .ok (.sipush 200, 3) := by decide +kernel
theorem d_ES_feedMany_10 : decode b_ES_feedMany 10 = .ok (.if_icmp .le 11, 3) := by decide +kernel
theorem d_ES_feedMany_13 : decode b_ES_feedMany 13 = .ok (.new 89, 3) := by decide +kernel
theorem d_ES_feedMany_16 : decode b_ES_feedMany 16 = .ok (.dup, 1) := by decide +kernel
theorem d_ES_feedMany_17 : decode b_ES_feedMany 17 = .ok (.invokespecial 91, 3) := by decide +kernel
theorem d_ES_feedMany_20 : decode b_ES_feedMany 20 = .ok (.athrow, 1) := by decide +kernel
theorem d_ES_feedMany_21 : decode b_ES_feedMany 21 = .ok (.aload_n 0, 1) := by decide +kernel
theorem d_ES_feedMany_22 : decode b_ES_feedMany 22 = .ok (.getfield 59, 3) := by decide +kernel
theorem d_ES_feedMany_25 : decode b_ES_feedMany 25 = .ok (.ifCond .eq 6, 3) := by decide +kernel
theorem d_ES_feedMany_28 : decode b_ES_feedMany 28 = .ok (.bipush (-3), 2) := by decide +kernel
theorem d_ES_feedMany_30 : decode b_ES_feedMany 30 = .ok (.ireturn, 1) := by decide +kernel
theorem d_ES_feedMany_31 : decode b_ES_feedMany 31 = .ok (.iconst 0, 1) := by decide +kernel
theorem d_ES_feedMany_32 : decode b_ES_feedMany 32 = .ok (.istore 5, 2) := by decide +kernel
theorem d_ES_feedMany_34 : decode b_ES_feedMany 34 = .ok (.iload 5, 2) := by decide +kernel
theorem d_ES_feedMany_36 : decode b_ES_feedMany 36 = .ok (.iload 4, 2) := by decide +kernel
theorem d_ES_feedMany_38 : decode b_ES_feedMany 38 = .ok (.if_icmp .ge 26, 3) := by decide +kernel
theorem d_ES_feedMany_41 : decode b_ES_feedMany 41 = .ok (.aload_n 0, 1) := by decide +kernel
theorem d_ES_feedMany_42 : decode b_ES_feedMany 42 = .ok (.iload_n 1, 1) := by decide +kernel
theorem d_ES_feedMany_43 : decode b_ES_feedMany 43 = .ok (.iload 5, 2) := by decide +kernel
theorem d_ES_feedMany_45 : decode b_ES_feedMany 45 = .ok (.iload_n 2, 1) := by decide +kernel
theorem d_ES_feedMany_46 : decode b_ES_feedMany 46 = .ok (.imul, 1) := by decide +kernel
theorem d_ES_feedMany_47 : decode b_ES_feedMany 47 = .ok (.iadd, 1) := by decide +kernel
theorem d_ES_feedMany_48 : decode b_ES_feedMany 48 = .ok (.iload_n 3, 1) := by decide +kernel
theorem d_ES_feedMany_49 : decode b_ES_feedMany 49 = .ok (.iload 5, 2) := by decide +kernel
theorem d_ES_feedMany_51 : decode b_ES_feedMany 51 = .ok (.iadd, 1) := by decide +kernel
theorem d_ES_feedMany_52 : decode b_ES_feedMany 52 = .ok (.invokevirtual 92, 3) := by decide +kernel
theorem d_ES_feedMany_55 : decode b_ES_feedMany 55 = .ok (.ifCond .ne 9, 3) := by decide +kernel
theorem d_ES_feedMany_58 : decode b_ES_feedMany 58 = .ok (.iinc 5 1, 3) := by decide +kernel
theorem d_ES_feedMany_61 : decode b_ES_feedMany 61 = .ok (.goto (-27), 3) := by decide +kernel
theorem d_ES_feedMany_64 : decode b_ES_feedMany 64 = .ok (.iload 5, 2) := by decide +kernel
theorem d_ES_feedMany_66 : decode b_ES_feedMany 66 = .ok (.ireturn, 1) := by decide +kernel
theorem d_ES_keyOf_0 : decode b_ES_keyOf 0 = .ok (.iload_n 1, 1) := by decide +kernel
theorem d_ES_keyOf_1 : decode b_ES_keyOf 1 = .ok (.aload_n 0, 1) := by decide +kernel
theorem d_ES_keyOf_2 : decode b_ES_keyOf 2 = .ok (.getfield 63, 3) := by decide +kernel
theorem d_ES_keyOf_5 : decode b_ES_keyOf 5 = .ok (.iconst 1, 1) := by decide +kernel
theorem d_ES_keyOf_6 : decode b_ES_keyOf 6 = .ok (.isub, 1) := by decide +kernel
theorem d_ES_keyOf_7 : decode b_ES_keyOf 7 = .ok (.if_icmp .ne 17, 3) := by decide +kernel
theorem d_ES_keyOf_10 : decode b_ES_keyOf 10 = .ok (.aload_n 0, 1) := by decide +kernel
theorem d_ES_keyOf_11 : decode b_ES_keyOf 11 = .ok (.getfield 25, 3) := by decide +kernel
theorem d_ES_keyOf_14 : decode b_ES_keyOf 14 = .ok (.aload_n 0, 1) := by decide +kernel
theorem d_ES_keyOf_15 : decode b_ES_keyOf 15 = .ok (.getfield 41, 3) := by decide +kernel
theorem d_ES_keyOf_18 : decode b_ES_keyOf 18 = .ok (.iload_n 1, 1) := by decide +kernel
theorem d_ES_keyOf_19 : decode b_ES_keyOf 19 = .ok (.iaload, 1) := by decide +kernel
theorem d_ES_keyOf_20 : decode b_ES_keyOf 20 = .ok (.iaload, 1) := by decide +kernel
theorem d_ES_keyOf_21 : decode b_ES_keyOf 21 = .ok (.goto 14, 3) := by decide +kernel
theorem d_ES_keyOf_24 : decode b_ES_keyOf 24 = .ok (.aload_n 0, 1) := by decide +kernel
theorem d_ES_keyOf_25 : decode b_ES_keyOf 25 = .ok (.getfield 35, 3) := by decide +kernel
theorem d_ES_keyOf_28 : decode b_ES_keyOf 28 = .ok (.aload_n 0, 1) := by decide +kernel
theorem d_ES_keyOf_29 : decode b_ES_keyOf 29 = .ok (.getfield 41, 3) := by decide +kernel
theorem d_ES_keyOf_32 : decode b_ES_keyOf 32 = .ok (.iload_n 1, 1) := by decide +kernel
theorem d_ES_keyOf_33 : decode b_ES_keyOf 33 = .ok (.iaload, 1) := by decide +kernel
theorem d_ES_keyOf_34 : decode b_ES_keyOf 34 = .ok (.iaload, 1) := by decide +kernel
theorem d_ES_keyOf_35 : decode b_ES_keyOf 35 = .ok (.ireturn, 1) := by decide +kernel
theorem d_ES_valueOf_0 : decode b_ES_valueOf 0 = .ok (.iload_n 1, 1) := by decide +kernel
theorem d_ES_valueOf_1 : decode b_ES_valueOf 1 = .ok (.aload_n 0, 1) := by decide +kernel
theorem d_ES_valueOf_2 : decode b_ES_valueOf 2 = .ok (.getfield 63, 3) := by decide +kernel
theorem d_ES_valueOf_5 : decode b_ES_valueOf 5 = .ok (.iconst 1, 1) := by decide +kernel
theorem d_ES_valueOf_6 : decode b_ES_valueOf 6 = .ok (.isub, 1) := by decide +kernel
theorem d_ES_valueOf_7 : decode b_ES_valueOf 7 = .ok (.if_icmp .ne 17, 3) := by decide +kernel
theorem d_ES_valueOf_10 : decode b_ES_valueOf 10 = .ok (.aload_n 0, 1) := by decide +kernel
theorem d_ES_valueOf_11 : decode b_ES_valueOf 11 = .ok (.getfield 29, 3) := by decide +kernel
theorem d_ES_valueOf_14 : decode b_ES_valueOf 14 = .ok (.aload_n 0, 1) := by decide +kernel
theorem d_ES_valueOf_15 : decode b_ES_valueOf 15 = .ok (.getfield 41, 3) := by decide +kernel
theorem d_ES_valueOf_18 : decode b_ES_valueOf 18 = .ok (.iload_n 1, 1) := by decide +kernel
theorem d_ES_valueOf_19 : decode b_ES_valueOf 19 = .ok (.iaload, 1) := by decide +kernel
theorem d_ES_valueOf_20 : decode b_ES_valueOf 20 = .ok (.iaload, 1) := by decide +kernel
theorem d_ES_valueOf_21 : decode b_ES_valueOf 21 = .ok (.goto 14, 3) := by decide +kernel
theorem d_ES_valueOf_24 : decode b_ES_valueOf 24 = .ok (.aload_n 0, 1) := by decide +kernel
theorem d_ES_valueOf_25 : decode b_ES_valueOf 25 = .ok (.getfield 38, 3) := by decide +kernel
theorem d_ES_valueOf_28 : decode b_ES_valueOf 28 = .ok (.aload_n 0, 1) := by decide +kernel
theorem d_ES_valueOf_29 : decode b_ES_valueOf 29 = .ok (.getfield 41, 3) := by decide +kernel
theorem d_ES_valueOf_32 : decode b_ES_valueOf 32 = .ok (.iload_n 1, 1) := by decide +kernel
theorem d_ES_valueOf_33 : decode b_ES_valueOf 33 = .ok (.iaload, 1) := by decide +kernel
theorem d_ES_valueOf_34 : decode b_ES_valueOf 34 = .ok (.iaload, 1) := by decide +kernel
theorem d_ES_valueOf_35 : decode b_ES_valueOf 35 = .ok (.ireturn, 1) := by decide +kernel
theorem d_ES_hasRow_0 : decode b_ES_hasRow 0 = .ok (.iload_n 1, 1) := by decide +kernel
theorem d_ES_hasRow_1 : decode b_ES_hasRow 1 = .ok (.iconst (-1), 1) := by decide +kernel
theorem d_ES_hasRow_2 : decode b_ES_hasRow 2 = .ok (.if_icmp .eq 22, 3) := by decide +kernel
theorem d_ES_hasRow_5 : decode b_ES_hasRow 5 = .ok (.aload_n 0, 1) := by decide +kernel
theorem d_ES_hasRow_6 : decode b_ES_hasRow 6 = .ok (.getfield 41, 3) := by decide +kernel
theorem d_ES_hasRow_9 : decode b_ES_hasRow 9 = .ok (.iload_n 1, 1) := by decide +kernel
theorem d_ES_hasRow_10 : decode b_ES_hasRow 10 = .ok (.iaload, 1) := by decide +kernel
theorem d_ES_hasRow_11 : decode b_ES_hasRow 11 = .ok (.aload_n 0, 1) := by decide +kernel
theorem d_ES_hasRow_12 : decode b_ES_hasRow 12 = .ok (.getfield 44, 3) := by decide +kernel
theorem d_ES_hasRow_15 : decode b_ES_hasRow 15 = .ok (.iload_n 1, 1) := by decide +kernel
theorem d_ES_hasRow_16 : decode b_ES_hasRow 16 = .ok (.iaload, 1) := by decide +kernel
theorem d_ES_hasRow_17 : decode b_ES_hasRow 17 = .ok (.if_icmp .ge 7, 3) := by decide +kernel
theorem d_ES_hasRow_20 : decode b_ES_hasRow 20 = .ok (.iconst 1, 1) := by decide +kernel
theorem d_ES_hasRow_21 : decode b_ES_hasRow 21 = .ok (.goto 4, 3) := by decide +kernel
theorem d_ES_hasRow_24 : decode b_ES_hasRow 24 = .ok (.iconst 0, 1) := by decide +kernel
theorem d_ES_hasRow_25 : decode b_ES_hasRow 25 = .ok (.ireturn, 1) := by decide +kernel
end
section
-- ===== decode rows (printed by gen/names.py) =====
theorem d_ES_first_0 : decode b_ES_first 0 = .ok (.aload_n 0, 1) := by decide +kernel
theorem d_ES_first_1 : decode b_ES_first 1 = .ok (.iload_n 1, 1) := by decide +kernel
theorem d_ES_first_2 : decode b_ES_first 2 = .ok (.invokevirtual 95, 3) := by decide +kernel
theorem d_ES_first_5 : decode b_ES_first 5 = .ok (.ifCond .eq 11, 3) := by decide +kernel
theorem d_ES_first_8 : decode b_ES_first 8 = .ok (.aload_n 0, 1) := by decide +kernel
theorem d_ES_first_9 : decode b_ES_first 9 = .ok (.iload_n 2, 1) := by decide +kernel
theorem d_ES_first_10 : decode b_ES_first 10 = .ok (.invokevirtual 95, 3) := by decide +kernel
theorem d_ES_first_13 : decode b_ES_first 13 = .ok (.ifCond .ne 29, 3) := by decide +kernel
theorem d_ES_first_16 : decode b_ES_first 16 = .ok (.aload_n 0, 1) := by decide +kernel
theorem d_ES_first_17 : decode b_ES_first 17 = .ok (.iload_n 1, 1) := by decide +kernel
theorem d_ES_first_18 : decode b_ES_first 18 = .ok (.invokevirtual 95, 3) := by decide +kernel
theorem d_ES_first_21 : decode b_ES_first 21 = .ok (.ifCond .eq 7, 3) := by decide +kernel
theorem d_ES_first_24 : decode b_ES_first 24 = .ok (.iload_n 1, 1) := by decide +kernel
theorem d_ES_first_25 : decode b_ES_first 25 = .ok (.goto 16, 3) := by decide +kernel
theorem d_ES_first_28 : decode b_ES_first 28 = .ok (.aload_n 0, 1) := by decide +kernel
theorem d_ES_first_29 : decode b_ES_first 29 = .ok (.iload_n 2, 1) := by decide +kernel
theorem d_ES_first_30 : decode b_ES_first 30 = .ok (.invokevirtual 95, 3) := by decide +kernel
theorem d_ES_first_33 : decode b_ES_first 33 = .ok (.ifCond .eq 7, 3) := by decide +kernel
theorem d_ES_first_36 : decode b_ES_first 36 = .ok (.iload_n 2, 1) := by decide +kernel
theorem d_ES_first_37 : decode b_ES_first 37 = .ok (.goto 4, 3) := by decide +kernel
theorem d_ES_first_40 : decode b_ES_first 40 = .ok (.iconst (-1), 1) := by decide +kernel
theorem d_ES_first_41 : decode b_ES_first 41 = .ok (.ireturn, 1) := by decide +kernel
theorem d_ES_first_42 : decode b_ES_first 42 = .ok (.aload_n 0, 1) := by decide +kernel
theorem d_ES_first_43 : decode b_ES_first 43 = .ok (.iload_n 1, 1) := by decide +kernel
theorem d_ES_first_44 : decode b_ES_first 44 = .ok (.invokevirtual 99, 3) := by decide +kernel
theorem d_ES_first_47 : decode b_ES_first 47 = .ok (.istore_n 3, 1) := by decide +kernel
theorem d_ES_first_48 : decode b_ES_first 48 = .ok (.aload_n 0, 1) := by decide +kernel
theorem d_ES_first_49 : decode b_ES_first 49 = .ok (.iload_n 2, 1) := by decide +kernel
theorem d_ES_first_50 : decode b_ES_first 50 = .ok (.invokevirtual 99, 3) := by decide +kernel
theorem d_ES_first_53 : decode b_ES_first 53 = .ok (.istore 4, 2) := by decide +kernel
theorem d_ES_first_55 : decode b_ES_first 55 = .ok (.iload_n 3, 1) := by decide +kernel
theorem d_ES_first_56 : decode b_ES_first 56 = .ok (.iload 4, 2) := by decide +kernel
theorem d_ES_first_58 : decode b_ES_first 58 = .ok (.if_icmp .eq 17, 3) := by decide +kernel
theorem d_ES_first_61 : decode b_ES_first 61 = .ok (.iload_n 3, 1) := by decide +kernel
theorem d_ES_first_62 : decode b_ES_first 62 = .ok (.iload 4, 2) := by decide +kernel
theorem d_ES_first_64 : decode b_ES_first 64 = .ok (.if_icmp .ge 7, 3) := by decide +kernel
theorem d_ES_first_67 : decode b_ES_first 67 = .ok (.iload_n 1, 1) := by decide +kernel
theorem d_ES_first_68 : decode b_ES_first 68 = .ok (.goto 12, 3) := by decide +kernel
theorem d_ES_first_71 : decode b_ES_first 71 = .ok (.iload_n 2, 1) := by decide +kernel
theorem d_ES_first_72 : decode b_ES_first 72 = .ok (.goto 8, 3) := by decide +kernel
theorem d_ES_first_75 : decode b_ES_first 75 = .ok (.iload_n 1, 1) := by decide +kernel
theorem d_ES_first_76 : decode b_ES_first 76 = .ok (.iload_n 2, 1) := by decide +kernel
theorem d_ES_first_77 : decode b_ES_first 77 = .ok (.invokestatic 7, 3) := by decide +kernel
theorem d_ES_first_80 : decode b_ES_first 80 = .ok (.ireturn, 1) := by decide +kernel
theorem d_ES_play_0 : decode b_ES_play 0 = .ok (.aload_n 0, 1) := by decide +kernel
theorem d_ES_play_1 : decode b_ES_play 1 = .ok (.getfield 47, 3) := by decide +kernel
theorem d_ES_play_4 : decode b_ES_play 4 = .ok (.iload_n 1, 1) := by decide +kernel
theorem d_ES_play_5 : decode b_ES_play 5 = .ok (.aload_n 0, 1) := by decide +kernel
theorem d_ES_play_6 : decode b_ES_play 6 = .ok (.aload_n 0, 1) := by decide +kernel
theorem d_ES_play_7 : decode b_ES_play 7 = .ok (.getfield 47, 3) := by decide +kernel
theorem d_ES_play_10 : decode b_ES_play 10 = .ok (.iconst 2, 1) := by decide +kernel
theorem d_ES_play_11 : decode b_ES_play 11 = .ok (.iload_n 1, 1) := by decide +kernel
theorem d_ES_play_12 : decode b_ES_play 12 = .ok (.imul, 1) := by decide +kernel
theorem d_ES_play_13 : decode b_ES_play 13 = .ok (.iaload, 1) := by decide +kernel
theorem d_ES_play_14 : decode b_ES_play 14 = .ok (.aload_n 0, 1) := by decide +kernel
theorem d_ES_play_15 : decode b_ES_play 15 = .ok (.getfield 47, 3) := by decide +kernel
theorem d_ES_play_18 : decode b_ES_play 18 = .ok (.iconst 2, 1) := by decide +kernel
theorem d_ES_play_19 : decode b_ES_play 19 = .ok (.iload_n 1, 1) := by decide +kernel
theorem d_ES_play_20 : decode b_ES_play 20 = .ok (.imul, 1) := by decide +kernel
theorem d_ES_play_21 : decode b_ES_play 21 = .ok (.iconst 1, 1) := by decide +kernel
theorem d_ES_play_22 : decode b_ES_play 22 = .ok (.iadd, 1) := by decide +kernel
theorem d_ES_play_23 : decode b_ES_play 23 = .ok (.iaload, 1) := by decide +kernel
theorem d_ES_play_24 : decode b_ES_play 24 = .ok (.invokevirtual 103, 3) := by decide +kernel
theorem d_ES_play_27 : decode b_ES_play 27 = .ok (.iastore, 1) := by decide +kernel
theorem d_ES_play_28 : decode b_ES_play 28 = .ok (.return_, 1) := by decide +kernel
theorem d_ES_seal_0 : decode b_ES_seal 0 = .ok (.aload_n 0, 1) := by decide +kernel
theorem d_ES_seal_1 : decode b_ES_seal 1 = .ok (.getfield 59, 3) := by decide +kernel
theorem d_ES_seal_4 : decode b_ES_seal 4 = .ok (.ifCond .eq 6, 3) := by decide +kernel
theorem d_ES_seal_7 : decode b_ES_seal 7 = .ok (.bipush (-3), 2) := by decide +kernel
theorem d_ES_seal_9 : decode b_ES_seal 9 = .ok (.ireturn, 1) := by decide +kernel
theorem d_ES_seal_10 : decode b_ES_seal 10 = .ok (.aload_n 0, 1) := by decide +kernel
theorem d_ES_seal_11 : decode b_ES_seal 11 = .ok (.iconst 1, 1) := by decide +kernel
theorem d_ES_seal_12 : decode b_ES_seal 12 = .ok (.putfield 59, 3) := by decide +kernel
theorem d_ES_seal_15 : decode b_ES_seal 15 = .ok (.aload_n 0, 1) := by decide +kernel
theorem d_ES_seal_16 : decode b_ES_seal 16 = .ok (.iconst 0, 1) := by decide +kernel
theorem d_ES_seal_17 : decode b_ES_seal 17 = .ok (.putfield 69, 3) := by decide +kernel
theorem d_ES_seal_20 : decode b_ES_seal 20 = .ok (.aload_n 0, 1) := by decide +kernel
theorem d_ES_seal_21 : decode b_ES_seal 21 = .ok (.invokevirtual 83, 3) := by decide +kernel
theorem d_ES_seal_24 : decode b_ES_seal 24 = .ok (.aload_n 0, 1) := by decide +kernel
theorem d_ES_seal_25 : decode b_ES_seal 25 = .ok (.getfield 41, 3) := by decide +kernel
theorem d_ES_seal_28 : decode b_ES_seal 28 = .ok (.aload_n 0, 1) := by decide +kernel
theorem d_ES_seal_29 : decode b_ES_seal 29 = .ok (.getfield 63, 3) := by decide +kernel
theorem d_ES_seal_32 : decode b_ES_seal 32 = .ok (.iconst 0, 1) := by decide +kernel
theorem d_ES_seal_33 : decode b_ES_seal 33 = .ok (.iastore, 1) := by decide +kernel
theorem d_ES_seal_34 : decode b_ES_seal 34 = .ok (.aload_n 0, 1) := by decide +kernel
theorem d_ES_seal_35 : decode b_ES_seal 35 = .ok (.getfield 44, 3) := by decide +kernel
theorem d_ES_seal_38 : decode b_ES_seal 38 = .ok (.aload_n 0, 1) := by decide +kernel
theorem d_ES_seal_39 : decode b_ES_seal 39 = .ok (.getfield 63, 3) := by decide +kernel
theorem d_ES_seal_42 : decode b_ES_seal 42 = .ok (.aload_n 0, 1) := by decide +kernel
theorem d_ES_seal_43 : decode b_ES_seal 43 = .ok (.getfield 50, 3) := by decide +kernel
theorem d_ES_seal_46 : decode b_ES_seal 46 = .ok (.iastore, 1) := by decide +kernel
theorem d_ES_seal_47 : decode b_ES_seal 47 = .ok (.aload_n 0, 1) := by decide +kernel
theorem d_ES_seal_48 : decode b_ES_seal 48 = .ok (.dup, 1) := by decide +kernel
theorem d_ES_seal_49 : decode b_ES_seal 49 = .ok (.getfield 63, 3) := by decide +kernel
theorem d_ES_seal_52 : decode b_ES_seal 52 = .ok (.iconst 1, 1) := by decide +kernel
theorem d_ES_seal_53 : decode b_ES_seal 53 = .ok (.iadd, 1) := by decide +kernel
theorem d_ES_seal_54 : decode b_ES_seal 54 = .ok (.putfield 63, 3) := by decide +kernel
theorem d_ES_seal_57 : decode b_ES_seal 57 = .ok (.aload_n 0, 1) := by decide +kernel
theorem d_ES_seal_58 : decode b_ES_seal 58 = .ok (.iconst 1, 1) := by decide +kernel
theorem d_ES_seal_59 : decode b_ES_seal 59 = .ok (.putfield 106, 3) := by decide +kernel
theorem d_ES_seal_62 : decode b_ES_seal 62 = .ok (.aload_n 0, 1) := by decide +kernel
theorem d_ES_seal_63 : decode b_ES_seal 63 = .ok (.getfield 106, 3) := by decide +kernel
theorem d_ES_seal_66 : decode b_ES_seal 66 = .ok (.aload_n 0, 1) := by decide +kernel
theorem d_ES_seal_67 : decode b_ES_seal 67 = .ok (.getfield 63, 3) := by decide +kernel
theorem d_ES_seal_70 : decode b_ES_seal 70 = .ok (.if_icmp .ge 16, 3) := by decide +kernel
theorem d_ES_seal_73 : decode b_ES_seal 73 = .ok (.aload_n 0, 1) := by decide +kernel
theorem d_ES_seal_74 : decode b_ES_seal 74 = .ok (.dup, 1) := by decide +kernel
theorem d_ES_seal_75 : decode b_ES_seal 75 = .ok (.getfield 106, 3) := by decide +kernel
theorem d_ES_seal_78 : decode b_ES_seal 78 = .ok (.iconst 2, 1) := by decide +kernel
theorem d_ES_seal_79 : decode b_ES_seal 79 = .ok (.imul, 1) := by decide +kernel
theorem d_ES_seal_80 : decode b_ES_seal 80 = .ok (.putfield 106, 3) := by decide +kernel
theorem d_ES_seal_83 : decode b_ES_seal 83 = .ok (.goto (-21), 3) := by decide +kernel
theorem d_ES_seal_86 : decode b_ES_seal 86 = .ok (.iconst 0, 1) := by decide +kernel
theorem d_ES_seal_87 : decode b_ES_seal 87 = .ok (.istore_n 1, 1) := by decide +kernel
theorem d_ES_seal_88 : decode b_ES_seal 88 = .ok (.iload_n 1, 1) := by decide +kernel
theorem d_ES_seal_89 : decode b_ES_seal 89 = .ok (.aload_n 0, 1) := by decide +kernel
theorem d_ES_seal_90 : decode b_ES_seal 90 = .ok (.getfield 106, 3) := by decide +kernel
theorem d_ES_seal_93 : decode b_ES_seal 93 = .ok (.if_icmp .ge 41, 3) := by decide +kernel
theorem d_ES_seal_96 : decode b_ES_seal 96 = .ok (.aload_n 0, 1) := by decide +kernel
theorem d_ES_seal_97 : decode b_ES_seal 97 = .ok (.getfield 47, 3) := by decide +kernel
theorem d_ES_seal_100 : decode b_ES_seal 100 = .ok (.aload_n 0, 1) := by decide +kernel
theorem d_ES_seal_101 : decode b_ES_seal 101 = .ok (.getfield 106, 3) := by decide +kernel
theorem d_ES_seal_104 : decode b_ES_seal 104 = .ok (.iload_n 1, 1) := by decide +kernel
theorem d_ES_seal_105 : decode b_ES_seal 105 = .ok (.iadd, 1) := by decide +kernel
theorem d_ES_seal_106 : decode b_ES_seal 106 = .ok (.iload_n 1, 1) := by decide +kernel
theorem d_ES_seal_107 : decode b_ES_seal 107 = .ok (.aload_n 0, 1) := by decide +kernel
theorem d_ES_seal_108 : decode b_ES_seal 108 = .ok (.getfield 63, 3) := by decide +kernel
theorem d_ES_seal_111 : decode b_ES_seal 111 = .ok (.if_icmp .ge 15, 3) := by decide +kernel
theorem d_ES_seal_114 : decode b_ES_seal 114 = .ok (.aload_n 0, 1) := by decide +kernel
theorem d_ES_seal_115 : decode b_ES_seal 115 = .ok (.iload_n 1, 1) := by decide +kernel
theorem d_ES_seal_116 : decode b_ES_seal 116 = .ok (.invokevirtual 95, 3) := by decide +kernel
theorem d_ES_seal_119 : decode b_ES_seal 119 = .ok (.ifCond .eq 7, 3) := by decide +kernel
theorem d_ES_seal_122 : decode b_ES_seal 122 = .ok (.iload_n 1, 1) := by decide +kernel
theorem d_ES_seal_123 : decode b_ES_seal 123 = .ok (.goto 4, 3) := by decide +kernel
theorem d_ES_seal_126 : decode b_ES_seal 126 = .ok (.iconst (-1), 1) := by decide +kernel
theorem d_ES_seal_127 : decode b_ES_seal 127 = .ok (.iastore, 1) := by decide +kernel
theorem d_ES_seal_128 : decode b_ES_seal 128 = .ok (.iinc 1 1, 3) := by decide +kernel
theorem d_ES_seal_131 : decode b_ES_seal 131 = .ok (.goto (-43), 3) := by decide +kernel
theorem d_ES_seal_134 : decode b_ES_seal 134 = .ok (.aload_n 0, 1) := by decide +kernel
theorem d_ES_seal_135 : decode b_ES_seal 135 = .ok (.getfield 106, 3) := by decide +kernel
theorem d_ES_seal_138 : decode b_ES_seal 138 = .ok (.iconst 1, 1) := by decide +kernel
theorem d_ES_seal_139 : decode b_ES_seal 139 = .ok (.isub, 1) := by decide +kernel
theorem d_ES_seal_140 : decode b_ES_seal 140 = .ok (.istore_n 1, 1) := by decide +kernel
theorem d_ES_seal_141 : decode b_ES_seal 141 = .ok (.iload_n 1, 1) := by decide +kernel
theorem d_ES_seal_142 : decode b_ES_seal 142 = .ok (.ifCond .le 14, 3) := by decide +kernel
theorem d_ES_seal_145 : decode b_ES_seal 145 = .ok (.aload_n 0, 1) := by decide +kernel
theorem d_ES_seal_146 : decode b_ES_seal 146 = .ok (.iload_n 1, 1) := by decide +kernel
theorem d_ES_seal_147 : decode b_ES_seal 147 = .ok (.invokevirtual 109, 3) := by decide +kernel
theorem d_ES_seal_150 : decode b_ES_seal 150 = .ok (.iinc 1 (-1), 3) := by decide +kernel
theorem d_ES_seal_153 : decode b_ES_seal 153 = .ok (.goto (-12), 3) := by decide +kernel
theorem d_ES_seal_156 : decode b_ES_seal 156 = .ok (.iconst 0, 1) := by decide +kernel
theorem d_ES_seal_157 : decode b_ES_seal 157 = .ok (.ireturn, 1) := by decide +kernel
theorem d_ES_top_0 : decode b_ES_top 0 = .ok (.aload_n 0, 1) := by decide +kernel
theorem d_ES_top_1 : decode b_ES_top 1 = .ok (.getfield 47, 3) := by decide +kernel
theorem d_ES_top_4 : decode b_ES_top 4 = .ok (.iconst 1, 1) := by decide +kernel
theorem d_ES_top_5 : decode b_ES_top 5 = .ok (.iaload, 1) := by decide +kernel
theorem d_ES_top_6 : decode b_ES_top 6 = .ok (.ireturn, 1) := by decide +kernel
theorem d_ES_pass_0 : decode b_ES_pass 0 = .ok (.aload_n 0, 1) := by decide +kernel
theorem d_ES_pass_1 : decode b_ES_pass 1 = .ok (.invokevirtual 113, 3) := by decide +kernel
theorem d_ES_pass_4 : decode b_ES_pass 4 = .ok (.istore_n 1, 1) := by decide +kernel
theorem d_ES_pass_5 : decode b_ES_pass 5 = .ok (.aload_n 0, 1) := by decide +kernel
theorem d_ES_pass_6 : decode b_ES_pass 6 = .ok (.getfield 41, 3) := by decide +kernel
theorem d_ES_pass_9 : decode b_ES_pass 9 = .ok (.iload_n 1, 1) := by decide +kernel
theorem d_ES_pass_10 : decode b_ES_pass 10 = .ok (.dup2, 1) := by decide +kernel
theorem d_ES_pass_11 : decode b_ES_pass 11 = .ok (.iaload, 1) := by decide +kernel
theorem d_ES_pass_12 : decode b_ES_pass 12 = .ok (.iconst 1, 1) := by decide +kernel
theorem d_ES_pass_13 : decode b_ES_pass 13 = .ok (.iadd, 1) := by decide +kernel
theorem d_ES_pass_14 : decode b_ES_pass 14 = .ok (.iastore, 1) := by decide +kernel
theorem d_ES_pass_15 : decode b_ES_pass 15 = .ok (.aload_n 0, 1) := by decide +kernel
theorem d_ES_pass_16 : decode b_ES_pass 16 = .ok (.dup, 1) := by decide +kernel
theorem d_ES_pass_17 : decode b_ES_pass 17 = .ok (.getfield 66, 3) := by decide +kernel
theorem d_ES_pass_20 : decode b_ES_pass 20 = .ok (.iconst 1, 1) := by decide +kernel
theorem d_ES_pass_21 : decode b_ES_pass 21 = .ok (.iadd, 1) := by decide +kernel
theorem d_ES_pass_22 : decode b_ES_pass 22 = .ok (.putfield 66, 3) := by decide +kernel
theorem d_ES_pass_25 : decode b_ES_pass 25 = .ok (.aload_n 0, 1) := by decide +kernel
theorem d_ES_pass_26 : decode b_ES_pass 26 = .ok (.iload_n 1, 1) := by decide +kernel
theorem d_ES_pass_27 : decode b_ES_pass 27 = .ok (.invokevirtual 95, 3) := by decide +kernel
theorem d_ES_pass_30 : decode b_ES_pass 30 = .ok (.ifCond .ne 15, 3) := by decide +kernel
theorem d_ES_pass_33 : decode b_ES_pass 33 = .ok (.aload_n 0, 1) := by decide +kernel
theorem d_ES_pass_34 : decode b_ES_pass 34 = .ok (.getfield 47, 3) := by decide +kernel
theorem d_ES_pass_37 : decode b_ES_pass 37 = .ok (.aload_n 0, 1) := by decide +kernel
theorem d_ES_pass_38 : decode b_ES_pass 38 = .ok (.getfield 106, 3) := by decide +kernel
theorem d_ES_pass_41 : decode b_ES_pass 41 = .ok (.iload_n 1, 1) := by decide +kernel
theorem d_ES_pass_42 : decode b_ES_pass 42 = .ok (.iadd, 1) := by decide +kernel
theorem d_ES_pass_43 : decode b_ES_pass 43 = .ok (.iconst (-1), 1) := by decide +kernel
theorem d_ES_pass_44 : decode b_ES_pass 44 = .ok (.iastore, 1) := by decide +kernel
theorem d_ES_pass_45 : decode b_ES_pass 45 = .ok (.aload_n 0, 1) := by decide +kernel
theorem d_ES_pass_46 : decode b_ES_pass 46 = .ok (.getfield 106, 3) := by decide +kernel
theorem d_ES_pass_49 : decode b_ES_pass 49 = .ok (.iload_n 1, 1) := by decide +kernel
theorem d_ES_pass_50 : decode b_ES_pass 50 = .ok (.iadd, 1) := by decide +kernel
theorem d_ES_pass_51 : decode b_ES_pass 51 = .ok (.iconst 2, 1) := by decide +kernel
theorem d_ES_pass_52 : decode b_ES_pass 52 = .ok (.idiv, 1) := by decide +kernel
theorem d_ES_pass_53 : decode b_ES_pass 53 = .ok (.istore_n 2, 1) := by decide +kernel
theorem d_ES_pass_54 : decode b_ES_pass 54 = .ok (.iload_n 2, 1) := by decide +kernel
theorem d_ES_pass_55 : decode b_ES_pass 55 = .ok (.ifCond .le 15, 3) := by decide +kernel
theorem d_ES_pass_58 : decode b_ES_pass 58 = .ok (.aload_n 0, 1) := by decide +kernel
theorem d_ES_pass_59 : decode b_ES_pass 59 = .ok (.iload_n 2, 1) := by decide +kernel
theorem d_ES_pass_60 : decode b_ES_pass 60 = .ok (.invokevirtual 109, 3) := by decide +kernel
theorem d_ES_pass_63 : decode b_ES_pass 63 = .ok (.iload_n 2, 1) := by decide +kernel
theorem d_ES_pass_64 : decode b_ES_pass 64 = .ok (.iconst 2, 1) := by decide +kernel
theorem d_ES_pass_65 : decode b_ES_pass 65 = .ok (.idiv, 1) := by decide +kernel
theorem d_ES_pass_66 : decode b_ES_pass 66 = .ok (.istore_n 2, 1) := by decide +kernel
theorem d_ES_pass_67 : decode b_ES_pass 67 = .ok (.goto (-13), 3) := by decide +kernel
theorem d_ES_pass_70 : decode b_ES_pass 70 = .ok (.return_, 1) := by decide +kernel
theorem d_ES_nextRow_0 : decode b_ES_nextRow 0 = .ok (.aload_n 0, 1) := by decide +kernel
theorem d_ES_nextRow_1 : decode b_ES_nextRow 1 = .ok (.getfield 59, 3) := by decide +kernel
theorem d_ES_nextRow_4 : decode b_ES_nextRow 4 = .ok (.ifCond .ne 6, 3) := by decide +kernel
theorem d_ES_nextRow_7 : decode b_ES_nextRow 7 = .ok (.bipush (-4), 2) := by decide +kernel
theorem d_ES_nextRow_9 : decode b_ES_nextRow 9 = .ok (.ireturn, 1) := by decide +kernel
theorem d_ES_nextRow_10 : decode b_ES_nextRow 10 = .ok (.aload_n 0, 1) := by decide +kernel
theorem d_ES_nextRow_11 : decode b_ES_nextRow 11 = .ok (.iconst 0, 1) := by decide +kernel
theorem d_ES_nextRow_12 : decode b_ES_nextRow 12 = .ok (.putfield 69, 3) := by decide +kernel
theorem d_ES_nextRow_15 : decode b_ES_nextRow 15 = .ok (.aload_n 0, 1) := by decide +kernel
theorem d_ES_nextRow_16 : decode b_ES_nextRow 16 = .ok (.invokevirtual 113, 3) := by decide +kernel
theorem d_ES_nextRow_19 : decode b_ES_nextRow 19 = .ok (.iconst (-1), 1) := by decide +kernel
theorem d_ES_nextRow_20 : decode b_ES_nextRow 20 = .ok (.if_icmp .ne 5, 3) := by decide +kernel
theorem d_ES_nextRow_23 : decode b_ES_nextRow 23 = .ok (.iconst (-1), 1) := by decide +kernel
theorem d_ES_nextRow_24 : decode b_ES_nextRow 24 = .ok (.ireturn, 1) := by decide +kernel
theorem d_ES_nextRow_25 : decode b_ES_nextRow 25 = .ok (.aload_n 0, 1) := by decide +kernel
theorem d_ES_nextRow_26 : decode b_ES_nextRow 26 = .ok (.iconst 1, 1) := by decide +kernel
theorem d_ES_nextRow_27 : decode b_ES_nextRow 27 = .ok (.putfield 69, 3) := by decide +kernel
theorem d_ES_nextRow_30 : decode b_ES_nextRow 30 = .ok (.aload_n 0, 1) := by decide +kernel
theorem d_ES_nextRow_31 : decode b_ES_nextRow 31 = .ok (.aload_n 0, 1) := by decide +kernel
theorem d_ES_nextRow_32 : decode b_ES_nextRow 32 = .ok (.aload_n 0, 1) := by decide +kernel
theorem d_ES_nextRow_33 : decode b_ES_nextRow 33 = .ok (.invokevirtual 113, 3) := by decide +kernel
theorem d_ES_nextRow_36 : decode b_ES_nextRow 36 = .ok (.invokevirtual 99, 3) := by decide +kernel
theorem d_ES_nextRow_39 : decode b_ES_nextRow 39 = .ok (.putfield 117, 3) := by decide +kernel
theorem d_ES_nextRow_42 : decode b_ES_nextRow 42 = .ok (.aload_n 0, 1) := by decide +kernel
theorem d_ES_nextRow_43 : decode b_ES_nextRow 43 = .ok (.aload_n 0, 1) := by decide +kernel
theorem d_ES_nextRow_44 : decode b_ES_nextRow 44 = .ok (.aload_n 0, 1) := by decide +kernel
theorem d_ES_nextRow_45 : decode b_ES_nextRow 45 = .ok (.invokevirtual 113, 3) := by decide +kernel
theorem d_ES_nextRow_48 : decode b_ES_nextRow 48 = .ok (.invokevirtual 120, 3) := by decide +kernel
theorem d_ES_nextRow_51 : decode b_ES_nextRow 51 = .ok (.putfield 123, 3) := by decide +kernel
theorem d_ES_nextRow_54 : decode b_ES_nextRow 54 = .ok (.aload_n 0, 1) := by decide +kernel
theorem d_ES_nextRow_55 : decode b_ES_nextRow 55 = .ok (.invokevirtual 126, 3) := by decide +kernel
theorem d_ES_nextRow_58 : decode b_ES_nextRow 58 = .ok (.iconst 1, 1) := by decide +kernel
theorem d_ES_nextRow_59 : decode b_ES_nextRow 59 = .ok (.ireturn, 1) := by decide +kernel
theorem d_ES_nextGroup_0 : decode b_ES_nextGroup 0 = .ok (.aload_n 0, 1) := by decide +kernel
theorem d_ES_nextGroup_1 : decode b_ES_nextGroup 1 = .ok (.getfield 59, 3) := by decide +kernel
theorem d_ES_nextGroup_4 : decode b_ES_nextGroup 4 = .ok (.ifCond .ne 6, 3) := by decide +kernel
theorem d_ES_nextGroup_7 : decode b_ES_nextGroup 7 = .ok (.bipush (-4), 2) := by decide +kernel
theorem d_ES_nextGroup_9 : decode b_ES_nextGroup 9 = .ok (.ireturn, 1) := by decide +kernel
theorem d_ES_nextGroup_10 : decode b_ES_nextGroup 10 = .ok (.aload_n 0, 1) := by decide +kernel
theorem d_ES_nextGroup_11 : decode b_ES_nextGroup 11 = .ok (.iconst 0, 1) := by decide +kernel
theorem d_ES_nextGroup_12 : decode b_ES_nextGroup 12 = .ok (.putfield 69, 3) := by decide +kernel
theorem d_ES_nextGroup_15 : decode b_ES_nextGroup 15 = .ok (.aload_n 0, 1) := by decide +kernel
theorem d_ES_nextGroup_16 : decode b_ES_nextGroup 16 = .ok (.invokevirtual 113, 3) := by decide +kernel
theorem d_ES_nextGroup_19 : decode b_ES_nextGroup 19 = .ok (.iconst (-1), 1) := by decide +kernel
theorem d_ES_nextGroup_20 : decode b_ES_nextGroup 20 = .ok (.if_icmp .ne 5, 3) := by decide +kernel
theorem d_ES_nextGroup_23 : decode b_ES_nextGroup 23 = .ok (.iconst (-1), 1) := by decide +kernel
theorem d_ES_nextGroup_24 : decode b_ES_nextGroup 24 = .ok (.ireturn, 1) := by decide +kernel
theorem d_ES_nextGroup_25 : decode b_ES_nextGroup 25 = .ok (.aload_n 0, 1) := by decide +kernel
theorem d_ES_nextGroup_26 : decode b_ES_nextGroup 26 = .ok (.iconst 2, 1) := by decide +kernel
theorem d_ES_nextGroup_27 : decode b_ES_nextGroup 27 = .ok (.putfield 69, 3) := by decide +kernel
theorem d_ES_nextGroup_30 : decode b_ES_nextGroup 30 = .ok (.aload_n 0, 1) := by decide +kernel
theorem d_ES_nextGroup_31 : decode b_ES_nextGroup 31 = .ok (.aload_n 0, 1) := by decide +kernel
theorem d_ES_nextGroup_32 : decode b_ES_nextGroup 32 = .ok (.aload_n 0, 1) := by decide +kernel
theorem d_ES_nextGroup_33 : decode b_ES_nextGroup 33 = .ok (.invokevirtual 113, 3) := by decide +kernel
theorem d_ES_nextGroup_36 : decode b_ES_nextGroup 36 = .ok (.invokevirtual 99, 3) := by decide +kernel
theorem d_ES_nextGroup_39 : decode b_ES_nextGroup 39 = .ok (.putfield 117, 3) := by decide +kernel
theorem d_ES_nextGroup_42 : decode b_ES_nextGroup 42 = .ok (.aload_n 0, 1) := by decide +kernel
theorem d_ES_nextGroup_43 : decode b_ES_nextGroup 43 = .ok (.iconst 0, 1) := by decide +kernel
theorem d_ES_nextGroup_44 : decode b_ES_nextGroup 44 = .ok (.putfield 129, 3) := by decide +kernel
theorem d_ES_nextGroup_47 : decode b_ES_nextGroup 47 = .ok (.aload_n 0, 1) := by decide +kernel
theorem d_ES_nextGroup_48 : decode b_ES_nextGroup 48 = .ok (.iconst 0, 1) := by decide +kernel
theorem d_ES_nextGroup_49 : decode b_ES_nextGroup 49 = .ok (.putfield 132, 3) := by decide +kernel
theorem d_ES_nextGroup_52 : decode b_ES_nextGroup 52 = .ok (.aload_n 0, 1) := by decide +kernel
theorem d_ES_nextGroup_53 : decode b_ES_nextGroup 53 = .ok (.aload_n 0, 1) := by decide +kernel
theorem d_ES_nextGroup_54 : decode b_ES_nextGroup 54 = .ok (.aload_n 0, 1) := by decide +kernel
theorem d_ES_nextGroup_55 : decode b_ES_nextGroup 55 = .ok (.invokevirtual 113, 3) := by decide +kernel
theorem d_ES_nextGroup_58 : decode b_ES_nextGroup 58 = .ok (.invokevirtual 120, 3) := by decide +kernel
theorem d_ES_nextGroup_61 : decode b_ES_nextGroup 61 = .ok (.putfield 135, 3) := by decide +kernel
theorem d_ES_nextGroup_64 : decode b_ES_nextGroup 64 = .ok (.aload_n 0, 1) := by decide +kernel
theorem d_ES_nextGroup_65 : decode b_ES_nextGroup 65 = .ok (.aload_n 0, 1) := by decide +kernel
theorem d_ES_nextGroup_66 : decode b_ES_nextGroup 66 = .ok (.getfield 135, 3) := by decide +kernel
theorem d_ES_nextGroup_69 : decode b_ES_nextGroup 69 = .ok (.putfield 138, 3) := by decide +kernel
theorem d_ES_nextGroup_72 : decode b_ES_nextGroup 72 = .ok (.aload_n 0, 1) := by decide +kernel
theorem d_ES_nextGroup_73 : decode b_ES_nextGroup 73 = .ok (.invokevirtual 113, 3) := by decide +kernel
theorem d_ES_nextGroup_76 : decode b_ES_nextGroup 76 = .ok (.iconst (-1), 1) := by decide +kernel
theorem d_ES_nextGroup_77 : decode b_ES_nextGroup 77 = .ok (.if_icmp .eq 78, 3) := by decide +kernel
theorem d_ES_nextGroup_80 : decode b_ES_nextGroup 80 = .ok (.aload_n 0, 1) := by decide +kernel
theorem d_ES_nextGroup_81 : decode b_ES_nextGroup 81 = .ok (.aload_n 0, 1) := by decide +kernel
theorem d_ES_nextGroup_82 : decode b_ES_nextGroup 82 = .ok (.invokevirtual 113, 3) := by decide +kernel
theorem d_ES_nextGroup_85 : decode b_ES_nextGroup 85 = .ok (.invokevirtual 99, 3) := by decide +kernel
theorem d_ES_nextGroup_88 : decode b_ES_nextGroup 88 = .ok (.aload_n 0, 1) := by decide +kernel
theorem d_ES_nextGroup_89 : decode b_ES_nextGroup 89 = .ok (.getfield 117, 3) := by decide +kernel
theorem d_ES_nextGroup_92 : decode b_ES_nextGroup 92 = .ok (.if_icmp .ne 63, 3) := by decide +kernel
theorem d_ES_nextGroup_95 : decode b_ES_nextGroup 95 = .ok (.aload_n 0, 1) := by decide +kernel
theorem d_ES_nextGroup_96 : decode b_ES_nextGroup 96 = .ok (.aload_n 0, 1) := by decide +kernel
theorem d_ES_nextGroup_97 : decode b_ES_nextGroup 97 = .ok (.invokevirtual 113, 3) := by decide +kernel
theorem d_ES_nextGroup_100 : decode b_ES_nextGroup 100 = .ok (.invokevirtual 120, 3) := by decide +kernel
theorem d_ES_nextGroup_103 : decode b_ES_nextGroup 103 = .ok (.istore_n 1, 1) := by decide +kernel
theorem d_ES_nextGroup_104 : decode b_ES_nextGroup 104 = .ok (.aload_n 0, 1) := by decide +kernel
theorem d_ES_nextGroup_105 : decode b_ES_nextGroup 105 = .ok (.dup, 1) := by decide +kernel
theorem d_ES_nextGroup_106 : decode b_ES_nextGroup 106 = .ok (.getfield 129, 3) := by decide +kernel
theorem d_ES_nextGroup_109 : decode b_ES_nextGroup 109 = .ok (.iconst 1, 1) := by decide +kernel
theorem d_ES_nextGroup_110 : decode b_ES_nextGroup 110 = .ok (.iadd, 1) := by decide +kernel
theorem d_ES_nextGroup_111 : decode b_ES_nextGroup 111 = .ok (.putfield 129, 3) := by decide +kernel
theorem d_ES_nextGroup_114 : decode b_ES_nextGroup 114 = .ok (.aload_n 0, 1) := by decide +kernel
theorem d_ES_nextGroup_115 : decode b_ES_nextGroup 115 = .ok (.dup, 1) := by decide +kernel
theorem d_ES_nextGroup_116 : decode b_ES_nextGroup 116 = .ok (.getfield 132, 3) := by decide +kernel
theorem d_ES_nextGroup_119 : decode b_ES_nextGroup 119 = .ok (.iload_n 1, 1) := by decide +kernel
theorem d_ES_nextGroup_120 : decode b_ES_nextGroup 120 = .ok (.iadd, 1) := by decide +kernel
theorem d_ES_nextGroup_121 : decode b_ES_nextGroup 121 = .ok (.putfield 132, 3) := by decide +kernel
theorem d_ES_nextGroup_124 : decode b_ES_nextGroup 124 = .ok (.aload_n 0, 1) := by decide +kernel
theorem d_ES_nextGroup_125 : decode b_ES_nextGroup 125 = .ok (.aload_n 0, 1) := by decide +kernel
theorem d_ES_nextGroup_126 : decode b_ES_nextGroup 126 = .ok (.getfield 135, 3) := by decide +kernel
theorem d_ES_nextGroup_129 : decode b_ES_nextGroup 129 = .ok (.iload_n 1, 1) := by decide +kernel
theorem d_ES_nextGroup_130 : decode b_ES_nextGroup 130 = .ok (.invokestatic 7, 3) := by decide +kernel
theorem d_ES_nextGroup_133 : decode b_ES_nextGroup 133 = .ok (.putfield 135, 3) := by decide +kernel
theorem d_ES_nextGroup_136 : decode b_ES_nextGroup 136 = .ok (.aload_n 0, 1) := by decide +kernel
theorem d_ES_nextGroup_137 : decode b_ES_nextGroup 137 = .ok (.aload_n 0, 1) := by decide +kernel
theorem d_ES_nextGroup_138 : decode b_ES_nextGroup 138 = .ok (.getfield 138, 3) := by decide +kernel
theorem d_ES_nextGroup_141 : decode b_ES_nextGroup 141 = .ok (.iload_n 1, 1) := by decide +kernel
theorem d_ES_nextGroup_142 : decode b_ES_nextGroup 142 = .ok (.invokestatic 13, 3) := by decide +kernel
theorem d_ES_nextGroup_145 : decode b_ES_nextGroup 145 = .ok (.putfield 138, 3) := by decide +kernel
theorem d_ES_nextGroup_148 : decode b_ES_nextGroup 148 = .ok (.aload_n 0, 1) := by decide +kernel
theorem d_ES_nextGroup_149 : decode b_ES_nextGroup 149 = .ok (.invokevirtual 126, 3) := by decide +kernel
theorem d_ES_nextGroup_152 : decode b_ES_nextGroup 152 = .ok (.goto (-80), 3) := by decide +kernel
theorem d_ES_nextGroup_155 : decode b_ES_nextGroup 155 = .ok (.iconst 2, 1) := by decide +kernel
theorem d_ES_nextGroup_156 : decode b_ES_nextGroup 156 = .ok (.ireturn, 1) := by decide +kernel
theorem d_ES_skipTo_0 : decode b_ES_skipTo 0 = .ok (.aload_n 0, 1) := by decide +kernel
theorem d_ES_skipTo_1 : decode b_ES_skipTo 1 = .ok (.getfield 59, 3) := by decide +kernel
theorem d_ES_skipTo_4 : decode b_ES_skipTo 4 = .ok (.ifCond .ne 6, 3) := by decide +kernel
theorem d_ES_skipTo_7 : decode b_ES_skipTo 7 = .ok (.bipush (-4), 2) := by decide +kernel
theorem d_ES_skipTo_9 : decode b_ES_skipTo 9 = .ok (.ireturn, 1) := by decide +kernel
theorem d_ES_skipTo_10 : decode b_ES_skipTo 10 = .ok (.aload_n 0, 1) := by decide +kernel
theorem d_ES_skipTo_11 : decode b_ES_skipTo 11 = .ok (.iconst 0, 1) := by decide +kernel
theorem d_ES_skipTo_12 : decode b_ES_skipTo 12 = .ok (.putfield 69, 3) := by decide +kernel
theorem d_ES_skipTo_15 : decode b_ES_skipTo 15 = .ok (.aload_n 0, 1) := by decide +kernel
theorem d_ES_skipTo_16 : decode b_ES_skipTo 16 = .ok (.getfield 66, 3) := by decide +kernel
theorem d_ES_skipTo_19 : decode b_ES_skipTo 19 = .ok (.istore_n 2, 1) := by decide +kernel
theorem d_ES_skipTo_20 : decode b_ES_skipTo 20 = .ok (.aload_n 0, 1) := by decide +kernel
theorem d_ES_skipTo_21 : decode b_ES_skipTo 21 = .ok (.invokevirtual 113, 3) := by decide +kernel
theorem d_ES_skipTo_24 : decode b_ES_skipTo 24 = .ok (.iconst (-1), 1) := by decide +kernel
theorem d_ES_skipTo_25 : decode b_ES_skipTo 25 = .ok (.if_icmp .eq 22, 3) := by decide +kernel
theorem d_ES_skipTo_28 : decode b_ES_skipTo 28 = .ok (.aload_n 0, 1) := by decide +kernel
theorem d_ES_skipTo_29 : decode b_ES_skipTo 29 = .ok (.aload_n 0, 1) := by decide +kernel
theorem d_ES_skipTo_30 : decode b_ES_skipTo 30 = .ok (.invokevirtual 113, 3) := by decide +kernel
theorem d_ES_skipTo_33 : decode b_ES_skipTo 33 = .ok (.invokevirtual 99, 3) := by decide +kernel
theorem d_ES_skipTo_36 : decode b_ES_skipTo 36 = .ok (.iload_n 1, 1) := by decide +kernel
theorem d_ES_skipTo_37 : decode b_ES_skipTo 37 = .ok (.if_icmp .ge 10, 3) := by decide +kernel
theorem d_ES_skipTo_40 : decode b_ES_skipTo 40 = .ok (.aload_n 0, 1) := by decide +kernel
theorem d_ES_skipTo_41 : decode b_ES_skipTo 41 = .ok (.invokevirtual 126, 3) := by decide +kernel
theorem d_ES_skipTo_44 : decode b_ES_skipTo 44 = .ok (.goto (-24), 3) := by decide +kernel
theorem d_ES_skipTo_47 : decode b_ES_skipTo 47 = .ok (.aload_n 0, 1) := by decide +kernel
theorem d_ES_skipTo_48 : decode b_ES_skipTo 48 = .ok (.getfield 66, 3) := by decide +kernel
theorem d_ES_skipTo_51 : decode b_ES_skipTo 51 = .ok (.iload_n 2, 1) := by decide +kernel
theorem d_ES_skipTo_52 : decode b_ES_skipTo 52 = .ok (.isub, 1) := by decide +kernel
theorem d_ES_skipTo_53 : decode b_ES_skipTo 53 = .ok (.ireturn, 1) := by decide +kernel
theorem d_ES_key_0 : decode b_ES_key 0 = .ok (.aload_n 0, 1) := by decide +kernel
theorem d_ES_key_1 : decode b_ES_key 1 = .ok (.getfield 69, 3) := by decide +kernel
theorem d_ES_key_4 : decode b_ES_key 4 = .ok (.ifCond .ne 7, 3) := by decide +kernel
theorem d_ES_key_7 : decode b_ES_key 7 = .ok (.iconst 0, 1) := by decide +kernel
theorem d_ES_key_8 : decode b_ES_key 8 = .ok (.goto 7, 3) := by decide +kernel
theorem d_ES_key_11 : decode b_ES_key 11 = .ok (.aload_n 0, 1) := by decide +kernel
theorem d_ES_key_12 : decode b_ES_key 12 = .ok (.getfield 117, 3) := by decide +kernel
theorem d_ES_key_15 : decode b_ES_key 15 = .ok (.ireturn, 1) := by decide +kernel
theorem d_ES_value_0 : decode b_ES_value 0 = .ok (.aload_n 0, 1) := by decide +kernel
theorem d_ES_value_1 : decode b_ES_value 1 = .ok (.getfield 69, 3) := by decide +kernel
theorem d_ES_value_4 : decode b_ES_value 4 = .ok (.iconst 1, 1) := by decide +kernel
theorem d_ES_value_5 : decode b_ES_value 5 = .ok (.if_icmp .ne 10, 3) := by decide +kernel
theorem d_ES_value_8 : decode b_ES_value 8 = .ok (.aload_n 0, 1) := by decide +kernel
theorem d_ES_value_9 : decode b_ES_value 9 = .ok (.getfield 123, 3) := by decide +kernel
theorem d_ES_value_12 : decode b_ES_value 12 = .ok (.goto 4, 3) := by decide +kernel
theorem d_ES_value_15 : decode b_ES_value 15 = .ok (.iconst 0, 1) := by decide +kernel
theorem d_ES_value_16 : decode b_ES_value 16 = .ok (.ireturn, 1) := by decide +kernel
theorem d_ES_group_0 : decode b_ES_group 0 = .ok (.iload_n 1, 1) := by decide +kernel
theorem d_ES_group_1 : decode b_ES_group 1 = .ok (.ifCond .lt 8, 3) := by decide +kernel
theorem d_ES_group_4 : decode b_ES_group 4 = .ok (.iload_n 1, 1) := by decide +kernel
theorem d_ES_group_5 : decode b_ES_group 5 = .ok (.iconst 3, 1) := by decide +kernel
theorem d_ES_group_6 : decode b_ES_group 6 = .ok (.if_icmp .le 11, 3) := by decide +kernel
theorem d_ES_group_9 : decode b_ES_group 9 = .ok (.new 89, 3) := by decide +kernel
theorem d_ES_group_12 : decode b_ES_group 12 = .ok (.dup, 1) := by decide +kernel
theorem d_ES_group_13 : decode b_ES_group 13 = .ok (.invokespecial 91, 3) := by decide +kernel
theorem d_ES_group_16 : decode b_ES_group 16 = .ok (.athrow, 1) := by decide +kernel
theorem d_ES_group_17 : decode b_ES_group 17 = .ok (.aload_n 0, 1) := by decide +kernel
theorem d_ES_group_18 : decode b_ES_group 18 = .ok (.getfield 69, 3) := by decide +kernel
theorem d_ES_group_21 : decode b_ES_group 21 = .ok (.iconst 2, 1) := by decide +kernel
theorem d_ES_group_22 : decode b_ES_group 22 = .ok (.if_icmp .eq 5, 3) := by decide +kernel
theorem d_ES_group_25 : decode b_ES_group 25 = .ok (.iconst 0, 1) := by decide +kernel
theorem d_ES_group_26 : decode b_ES_group 26 = .ok (.ireturn, 1) := by decide +kernel
theorem d_ES_group_27 : decode b_ES_group 27 = .ok (.iload_n 1, 1) := by decide +kernel
theorem d_ES_group_28 : decode b_ES_group 28 = .ok (.ifCond .ne 10, 3) := by decide +kernel
theorem d_ES_group_31 : decode b_ES_group 31 = .ok (.aload_n 0, 1) := by decide +kernel
theorem d_ES_group_32 : decode b_ES_group 32 = .ok (.getfield 129, 3) := by decide +kernel
theorem d_ES_group_35 : decode b_ES_group 35 = .ok (.goto 31, 3) := by decide +kernel
theorem d_ES_group_38 : decode b_ES_group 38 = .ok (.iload_n 1, 1) := by decide +kernel
theorem d_ES_group_39 : decode b_ES_group 39 = .ok (.iconst 1, 1) := by decide +kernel
theorem d_ES_group_40 : decode b_ES_group 40 = .ok (.if_icmp .ne 10, 3) := by decide +kernel
theorem d_ES_group_43 : decode b_ES_group 43 = .ok (.aload_n 0, 1) := by decide +kernel
theorem d_ES_group_44 : decode b_ES_group 44 = .ok (.getfield 132, 3) := by decide +kernel
theorem d_ES_group_47 : decode b_ES_group 47 = .ok (.goto 19, 3) := by decide +kernel
theorem d_ES_group_50 : decode b_ES_group 50 = .ok (.iload_n 1, 1) := by decide +kernel
theorem d_ES_group_51 : decode b_ES_group 51 = .ok (.iconst 2, 1) := by decide +kernel
theorem d_ES_group_52 : decode b_ES_group 52 = .ok (.if_icmp .ne 10, 3) := by decide +kernel
theorem d_ES_group_55 : decode b_ES_group 55 = .ok (.aload_n 0, 1) := by decide +kernel
theorem d_ES_group_56 : decode b_ES_group 56 = .ok (.getfield 135, 3) := by decide +kernel
theorem d_ES_group_59 : decode b_ES_group 59 = .ok (.goto 7, 3) := by decide +kernel
theorem d_ES_group_62 : decode b_ES_group 62 = .ok (.aload_n 0, 1) := by decide +kernel
theorem d_ES_group_63 : decode b_ES_group 63 = .ok (.getfield 138, 3) := by decide +kernel
theorem d_ES_group_66 : decode b_ES_group 66 = .ok (.ireturn, 1) := by decide +kernel
theorem d_ES_count_0 : decode b_ES_count 0 = .ok (.iload_n 1, 1) := by decide +kernel
theorem d_ES_count_1 : decode b_ES_count 1 = .ok (.ifCond .lt 8, 3) := by decide +kernel
theorem d_ES_count_4 : decode b_ES_count 4 = .ok (.iload_n 1, 1) := by decide +kernel
theorem d_ES_count_5 : decode b_ES_count 5 = .ok (.iconst 3, 1) := by decide +kernel
theorem d_ES_count_6 : decode b_ES_count 6 = .ok (.if_icmp .le 11, 3) := by decide +kernel
theorem d_ES_count_9 : decode b_ES_count 9 = .ok (.new 89, 3) := by decide +kernel
theorem d_ES_count_12 : decode b_ES_count 12 = .ok (.dup, 1) := by decide +kernel
theorem d_ES_count_13 : decode b_ES_count 13 = .ok (.invokespecial 91, 3) := by decide +kernel
theorem d_ES_count_16 : decode b_ES_count 16 = .ok (.athrow, 1) := by decide +kernel
theorem d_ES_count_17 : decode b_ES_count 17 = .ok (.iload_n 1, 1) := by decide +kernel
theorem d_ES_count_18 : decode b_ES_count 18 = .ok (.iconst 3, 1) := by decide +kernel
theorem d_ES_count_19 : decode b_ES_count 19 = .ok (.if_icmp .ge 31, 3) := by decide +kernel
theorem d_ES_count_22 : decode b_ES_count 22 = .ok (.iload_n 1, 1) := by decide +kernel
theorem d_ES_count_23 : decode b_ES_count 23 = .ok (.ifCond .ne 10, 3) := by decide +kernel
theorem d_ES_count_26 : decode b_ES_count 26 = .ok (.aload_n 0, 1) := by decide +kernel
theorem d_ES_count_27 : decode b_ES_count 27 = .ok (.getfield 56, 3) := by decide +kernel
theorem d_ES_count_30 : decode b_ES_count 30 = .ok (.goto 19, 3) := by decide +kernel
theorem d_ES_count_33 : decode b_ES_count 33 = .ok (.iload_n 1, 1) := by decide +kernel
theorem d_ES_count_34 : decode b_ES_count 34 = .ok (.iconst 1, 1) := by decide +kernel
theorem d_ES_count_35 : decode b_ES_count 35 = .ok (.if_icmp .ne 10, 3) := by decide +kernel
theorem d_ES_count_38 : decode b_ES_count 38 = .ok (.aload_n 0, 1) := by decide +kernel
theorem d_ES_count_39 : decode b_ES_count 39 = .ok (.getfield 53, 3) := by decide +kernel
theorem d_ES_count_42 : decode b_ES_count 42 = .ok (.goto 7, 3) := by decide +kernel
theorem d_ES_count_45 : decode b_ES_count 45 = .ok (.aload_n 0, 1) := by decide +kernel
theorem d_ES_count_46 : decode b_ES_count 46 = .ok (.getfield 66, 3) := by decide +kernel
theorem d_ES_count_49 : decode b_ES_count 49 = .ok (.ireturn, 1) := by decide +kernel
theorem d_ES_count_50 : decode b_ES_count 50 = .ok (.iconst 0, 1) := by decide +kernel
theorem d_ES_count_51 : decode b_ES_count 51 = .ok (.istore_n 2, 1) := by decide +kernel
theorem d_ES_count_52 : decode b_ES_count 52 = .ok (.iconst 0, 1) := by decide +kernel
theorem d_ES_count_53 : decode b_ES_count 53 = .ok (.istore_n 3, 1) := by decide +kernel
theorem d_ES_count_54 : decode b_ES_count 54 = .ok (.iload_n 3, 1) := by decide +kernel
theorem d_ES_count_55 : decode b_ES_count 55 = .ok (.aload_n 0, 1) := by decide +kernel
theorem d_ES_count_56 : decode b_ES_count 56 = .ok (.getfield 63, 3) := by decide +kernel
theorem d_ES_count_59 : decode b_ES_count 59 = .ok (.if_icmp .ge 25, 3) := by decide +kernel
theorem d_ES_count_62 : decode b_ES_count 62 = .ok (.iload_n 2, 1) := by decide +kernel
theorem d_ES_count_63 : decode b_ES_count 63 = .ok (.aload_n 0, 1) := by decide +kernel
theorem d_ES_count_64 : decode b_ES_count 64 = .ok (.iload_n 3, 1) := by decide +kernel
theorem d_ES_count_65 : decode b_ES_count 65 = .ok (.invokevirtual 95, 3) := by decide +kernel
theorem d_ES_count_68 : decode b_ES_count 68 = .ok (.ifCond .eq 7, 3) := by decide +kernel
theorem d_ES_count_71 : decode b_ES_count 71 = .ok (.iconst 1, 1) := by decide +kernel
theorem d_ES_count_72 : decode b_ES_count 72 = .ok (.goto 4, 3) := by decide +kernel
theorem d_ES_count_75 : decode b_ES_count 75 = .ok (.iconst 0, 1) := by decide +kernel
theorem d_ES_count_76 : decode b_ES_count 76 = .ok (.iadd, 1) := by decide +kernel
theorem d_ES_count_77 : decode b_ES_count 77 = .ok (.istore_n 2, 1) := by decide +kernel
theorem d_ES_count_78 : decode b_ES_count 78 = .ok (.iinc 3 1, 3) := by decide +kernel
theorem d_ES_count_81 : decode b_ES_count 81 = .ok (.goto (-27), 3) := by decide +kernel
theorem d_ES_count_84 : decode b_ES_count 84 = .ok (.iload_n 2, 1) := by decide +kernel
theorem d_ES_count_85 : decode b_ES_count 85 = .ok (.ireturn, 1) := by decide +kernel
end
section
-- ===== decode rows (printed by gen/names.py) =====
theorem d_EM_init_0 : decode b_EM_init 0 = .ok (.aload_n 0, 1) := by decide +kernel
theorem d_EM_init_1 : decode b_EM_init 1 = .ok (.invokespecial 1, 3) := by decide +kernel
theorem d_EM_init_4 : decode b_EM_init 4 = .ok (.aload_n 0, 1) := by decide +kernel
theorem d_EM_init_5 : decode b_EM_init 5 = .ok (.sipush 2064, 3) := by decide +kernel
theorem d_EM_init_8 : decode b_EM_init 8 = .ok (.newarray .int, 2) := by decide +kernel
theorem d_EM_init_10 : decode b_EM_init 10 = .ok (.putfield 7, 3) := by decide +kernel
theorem d_EM_init_13 : decode b_EM_init 13 = .ok (.aload_n 0, 1) := by decide +kernel
theorem d_EM_init_14 : decode b_EM_init 14 = .ok (.sipush 2064, 3) := by decide +kernel
theorem d_EM_init_17 : decode b_EM_init 17 = .ok (.newarray .int, 2) := by decide +kernel
theorem d_EM_init_19 : decode b_EM_init 19 = .ok (.putfield 13, 3) := by decide +kernel
theorem d_EM_init_22 : decode b_EM_init 22 = .ok (.aload_n 0, 1) := by decide +kernel
theorem d_EM_init_23 : decode b_EM_init 23 = .ok (.sipush 2064, 3) := by decide +kernel
theorem d_EM_init_26 : decode b_EM_init 26 = .ok (.newarray .int, 2) := by decide +kernel
theorem d_EM_init_28 : decode b_EM_init 28 = .ok (.putfield 16, 3) := by decide +kernel
theorem d_EM_init_31 : decode b_EM_init 31 = .ok (.aload_n 0, 1) := by decide +kernel
theorem d_EM_init_32 : decode b_EM_init 32 = .ok (.sipush 2064, 3) := by decide +kernel
theorem d_EM_init_35 : decode b_EM_init 35 = .ok (.newarray .boolean, 2) := by decide +kernel
theorem d_EM_init_37 : decode b_EM_init 37 = .ok (.putfield 19, 3) := by decide +kernel
theorem d_EM_init_40 : decode b_EM_init 40 = .ok (.iload_n 1, 1) := by decide +kernel
theorem d_EM_init_41 : decode b_EM_init 41 = .ok (.iconst 1, 1) := by decide +kernel
theorem d_EM_init_42 : decode b_EM_init 42 = .ok (.if_icmp .ge 7, 3) := by decide +kernel
theorem d_EM_init_45 : decode b_EM_init 45 = .ok (.iconst 1, 1) := by decide +kernel
theorem d_EM_init_46 : decode b_EM_init 46 = .ok (.goto 15, 3) := by decide +kernel
theorem d_EM_init_49 : decode b_EM_init 49 = .ok (.iload_n 1, 1) := by decide +kernel
theorem d_EM_init_50 : decode b_EM_init 50 = .ok (.bipush 64, 2) := by decide +kernel
theorem d_EM_init_52 : decode b_EM_init 52 = .ok (.if_icmp .le 8, 3) := by decide +kernel
theorem d_EM_init_55 : decode b_EM_init 55 = .ok (.bipush 64, 2) := by decide +kernel
theorem d_EM_init_57 : decode b_EM_init 57 = .ok (.goto 4, 3) := by decide +kernel
theorem d_EM_init_60 : decode b_EM_init 60 = .ok (.iload_n 1, 1) := by decide +kernel
theorem d_EM_init_61 : decode b_EM_init 61 = .ok (.istore_n 3, 1) := by decide +kernel
theorem d_EM_init_62 : decode b_EM_init 62 = .ok (.iload_n 2, 1) := by decide +kernel
theorem d_EM_init_63 : decode b_EM_init 63 = .ok (.iconst 1, 1) := by decide +kernel
theorem d_EM_init_64 : decode b_EM_init 64 = .ok (.if_icmp .ge 7, 3) := by decide +kernel
theorem d_EM_init_67 : decode b_EM_init 67 = .ok (.iconst 1, 1) := by decide +kernel
theorem d_EM_init_68 : decode b_EM_init 68 = .ok (.goto 17, 3) := by decide +kernel
theorem d_EM_init_71 : decode b_EM_init 71 = .ok (.iload_n 2, 1) := by decide +kernel
theorem d_EM_init_72 : decode b_EM_init 72 = .ok (.sipush 2000, 3) := by decide +kernel
theorem d_EM_init_75 : decode b_EM_init 75 = .ok (.if_icmp .le 9, 3) := by decide +kernel
theorem d_EM_init_78 : decode b_EM_init 78 = .ok (.sipush 2000, 3) := by decide +kernel
theorem d_EM_init_81 : decode b_EM_init 81 = .ok (.goto 4, 3) := by decide +kernel
theorem d_EM_init_84 : decode b_EM_init 84 = .ok (.iload_n 2, 1) := by decide +kernel
theorem d_EM_init_85 : decode b_EM_init 85 = .ok (.istore 4, 2) := by decide +kernel
theorem d_EM_init_87 : decode b_EM_init 87 = .ok (.aload_n 0, 1) := by decide +kernel
theorem d_EM_init_88 : decode b_EM_init 88 = .ok (.iload_n 3, 1) := by decide +kernel
theorem d_EM_init_89 : decode b_EM_init 89 = .ok (.putfield 23, 3) := by decide +kernel
theorem d_EM_init_92 : decode b_EM_init 92 = .ok (.aload_n 0, 1) := by decide +kernel
theorem d_EM_init_93 : decode b_EM_init 93 = .ok (.iload_n 3, 1) := by decide +kernel
theorem d_EM_init_94 : decode b_EM_init 94 = .ok (.iload 4, 2) := by decide +kernel
theorem d_EM_init_96 : decode b_EM_init 96 = .ok (.iload_n 3, 1) := by decide +kernel
theorem d_EM_init_97 : decode b_EM_init 97 = .ok (.idiv, 1) := by decide +kernel
theorem d_EM_init_98 : decode b_EM_init 98 = .ok (.iconst 1, 1) := by decide +kernel
theorem d_EM_init_99 : decode b_EM_init 99 = .ok (.iadd, 1) := by decide +kernel
theorem d_EM_init_100 : decode b_EM_init 100 = .ok (.imul, 1) := by decide +kernel
theorem d_EM_init_101 : decode b_EM_init 101 = .ok (.putfield 27, 3) := by decide +kernel
theorem d_EM_init_104 : decode b_EM_init 104 = .ok (.return_, 1) := by decide +kernel
theorem d_EM_thrown_0 : decode b_EM_thrown 0 = .ok (.aload_n 0, 1) := by decide +kernel
theorem d_EM_thrown_1 : decode b_EM_thrown 1 = .ok (.getfield 30, 3) := by decide +kernel
theorem d_EM_thrown_4 : decode b_EM_thrown 4 = .ok (.ireturn, 1) := by decide +kernel
theorem d_EM_reset_0 : decode b_EM_reset 0 = .ok (.aload_n 0, 1) := by decide +kernel
theorem d_EM_reset_1 : decode b_EM_reset 1 = .ok (.iconst 0, 1) := by decide +kernel
theorem d_EM_reset_2 : decode b_EM_reset 2 = .ok (.putfield 30, 3) := by decide +kernel
theorem d_EM_reset_5 : decode b_EM_reset 5 = .ok (.aload_n 0, 1) := by decide +kernel
theorem d_EM_reset_6 : decode b_EM_reset 6 = .ok (.iconst 0, 1) := by decide +kernel
theorem d_EM_reset_7 : decode b_EM_reset 7 = .ok (.putfield 33, 3) := by decide +kernel
theorem d_EM_reset_10 : decode b_EM_reset 10 = .ok (.aload_n 0, 1) := by decide +kernel
theorem d_EM_reset_11 : decode b_EM_reset 11 = .ok (.iconst 0, 1) := by decide +kernel
theorem d_EM_reset_12 : decode b_EM_reset 12 = .ok (.putfield 36, 3) := by decide +kernel
theorem d_EM_reset_15 : decode b_EM_reset 15 = .ok (.aload_n 0, 1) := by decide +kernel
theorem d_EM_reset_16 : decode b_EM_reset 16 = .ok (.iconst 0, 1) := by decide +kernel
theorem d_EM_reset_17 : decode b_EM_reset 17 = .ok (.putfield 39, 3) := by decide +kernel
theorem d_EM_reset_20 : decode b_EM_reset 20 = .ok (.aload_n 0, 1) := by decide +kernel
theorem d_EM_reset_21 : decode b_EM_reset 21 = .ok (.iconst 0, 1) := by decide +kernel
theorem d_EM_reset_22 : decode b_EM_reset 22 = .ok (.putfield 42, 3) := by decide +kernel
theorem d_EM_reset_25 : decode b_EM_reset 25 = .ok (.aload_n 0, 1) := by decide +kernel
theorem d_EM_reset_26 : decode b_EM_reset 26 = .ok (.iconst 0, 1) := by decide +kernel
theorem d_EM_reset_27 : decode b_EM_reset 27 = .ok (.putfield 46, 3) := by decide +kernel
theorem d_EM_reset_30 : decode b_EM_reset 30 = .ok (.aload_n 0, 1) := by decide +kernel
theorem d_EM_reset_31 : decode b_EM_reset 31 = .ok (.iconst 0, 1) := by decide +kernel
theorem d_EM_reset_32 : decode b_EM_reset 32 = .ok (.putfield 49, 3) := by decide +kernel
theorem d_EM_reset_35 : decode b_EM_reset 35 = .ok (.return_, 1) := by decide +kernel
theorem d_EM_take_0 : decode b_EM_take 0 = .ok (.aload_n 0, 1) := by decide +kernel
theorem d_EM_take_1 : decode b_EM_take 1 = .ok (.getfield 39, 3) := by decide +kernel
theorem d_EM_take_4 : decode b_EM_take 4 = .ok (.aload_n 0, 1) := by decide +kernel
theorem d_EM_take_5 : decode b_EM_take 5 = .ok (.getfield 23, 3) := by decide +kernel
theorem d_EM_take_8 : decode b_EM_take 8 = .ok (.if_icmp .ne 18, 3) := by decide +kernel
theorem d_EM_take_11 : decode b_EM_take 11 = .ok (.aload_n 0, 1) := by decide +kernel
theorem d_EM_take_12 : decode b_EM_take 12 = .ok (.dup, 1) := by decide +kernel
theorem d_EM_take_13 : decode b_EM_take 13 = .ok (.getfield 36, 3) := by decide +kernel
theorem d_EM_take_16 : decode b_EM_take 16 = .ok (.iconst 1, 1) := by decide +kernel
theorem d_EM_take_17 : decode b_EM_take 17 = .ok (.iadd, 1) := by decide +kernel
theorem d_EM_take_18 : decode b_EM_take 18 = .ok (.putfield 36, 3) := by decide +kernel
theorem d_EM_take_21 : decode b_EM_take 21 = .ok (.aload_n 0, 1) := by decide +kernel
theorem d_EM_take_22 : decode b_EM_take 22 = .ok (.iconst 0, 1) := by decide +kernel
theorem d_EM_take_23 : decode b_EM_take 23 = .ok (.putfield 39, 3) := by decide +kernel
theorem d_EM_take_26 : decode b_EM_take 26 = .ok (.aload_n 0, 1) := by decide +kernel
theorem d_EM_take_27 : decode b_EM_take 27 = .ok (.getfield 7, 3) := by decide +kernel
theorem d_EM_take_30 : decode b_EM_take 30 = .ok (.aload_n 0, 1) := by decide +kernel
theorem d_EM_take_31 : decode b_EM_take 31 = .ok (.getfield 33, 3) := by decide +kernel
theorem d_EM_take_34 : decode b_EM_take 34 = .ok (.iload_n 1, 1) := by decide +kernel
theorem d_EM_take_35 : decode b_EM_take 35 = .ok (.iastore, 1) := by decide +kernel
theorem d_EM_take_36 : decode b_EM_take 36 = .ok (.aload_n 0, 1) := by decide +kernel
theorem d_EM_take_37 : decode b_EM_take 37 = .ok (.getfield 13, 3) := by decide +kernel
theorem d_EM_take_40 : decode b_EM_take 40 = .ok (.aload_n 0, 1) := by decide +kernel
theorem d_EM_take_41 : decode b_EM_take 41 = .ok (.getfield 33, 3) := by decide +kernel
theorem d_EM_take_44 : decode b_EM_take 44 = .ok (.iload_n 2, 1) := by decide +kernel
theorem d_EM_take_45 : decode b_EM_take 45 = .ok (.iastore, 1) := by decide +kernel
theorem d_EM_take_46 : decode b_EM_take 46 = .ok (.aload_n 0, 1) := by decide +kernel
theorem d_EM_take_47 : decode b_EM_take 47 = .ok (.dup, 1) := by decide +kernel
theorem d_EM_take_48 : decode b_EM_take 48 = .ok (.getfield 33, 3) := by decide +kernel
theorem d_EM_take_51 : decode b_EM_take 51 = .ok (.iconst 1, 1) := by decide +kernel
theorem d_EM_take_52 : decode b_EM_take 52 = .ok (.iadd, 1) := by decide +kernel
theorem d_EM_take_53 : decode b_EM_take 53 = .ok (.putfield 33, 3) := by decide +kernel
theorem d_EM_take_56 : decode b_EM_take 56 = .ok (.aload_n 0, 1) := by decide +kernel
theorem d_EM_take_57 : decode b_EM_take 57 = .ok (.dup, 1) := by decide +kernel
theorem d_EM_take_58 : decode b_EM_take 58 = .ok (.getfield 39, 3) := by decide +kernel
theorem d_EM_take_61 : decode b_EM_take 61 = .ok (.iconst 1, 1) := by decide +kernel
theorem d_EM_take_62 : decode b_EM_take 62 = .ok (.iadd, 1) := by decide +kernel
theorem d_EM_take_63 : decode b_EM_take 63 = .ok (.putfield 39, 3) := by decide +kernel
theorem d_EM_take_66 : decode b_EM_take 66 = .ok (.return_, 1) := by decide +kernel
theorem d_EM_feed_0 : decode b_EM_feed 0 = .ok (.aload_n 0, 1) := by decide +kernel
theorem d_EM_feed_1 : decode b_EM_feed 1 = .ok (.iconst 0, 1) := by decide +kernel
theorem d_EM_feed_2 : decode b_EM_feed 2 = .ok (.putfield 30, 3) := by decide +kernel
theorem d_EM_feed_5 : decode b_EM_feed 5 = .ok (.aload_n 0, 1) := by decide +kernel
theorem d_EM_feed_6 : decode b_EM_feed 6 = .ok (.getfield 42, 3) := by decide +kernel
theorem d_EM_feed_9 : decode b_EM_feed 9 = .ok (.ifCond .eq 6, 3) := by decide +kernel
theorem d_EM_feed_12 : decode b_EM_feed 12 = .ok (.bipush (-3), 2) := by decide +kernel
theorem d_EM_feed_14 : decode b_EM_feed 14 = .ok (.ireturn, 1) := by decide +kernel
theorem d_EM_feed_15 : decode b_EM_feed 15 = .ok (.aload_n 0, 1) := by decide +kernel
theorem d_EM_feed_16 : decode b_EM_feed 16 = .ok (.getfield 33, 3) := by decide +kernel
theorem d_EM_feed_19 : decode b_EM_feed 19 = .ok (.aload_n 0, 1) := by decide +kernel
theorem d_EM_feed_20 : decode b_EM_feed 20 = .ok (.getfield 27, 3) := by decide +kernel
theorem d_EM_feed_23 : decode b_EM_feed 23 = .ok (.if_icmp .ne 6, 3) := by decide +kernel
theorem d_EM_feed_26 : decode b_EM_feed 26 = .ok (.bipush (-2), 2) := by decide +kernel
theorem d_EM_feed_28 : decode b_EM_feed 28 = .ok (.ireturn, 1) := by decide +kernel
theorem d_EM_feed_29 : decode b_EM_feed 29 = .ok (.aload_n 0, 1) := by decide +kernel
theorem d_EM_feed_30 : decode b_EM_feed 30 = .ok (.iload_n 1, 1) := by decide +kernel
theorem d_EM_feed_31 : decode b_EM_feed 31 = .ok (.iload_n 2, 1) := by decide +kernel
theorem d_EM_feed_32 : decode b_EM_feed 32 = .ok (.invokevirtual 52, 3) := by decide +kernel
theorem d_EM_feed_35 : decode b_EM_feed 35 = .ok (.iconst 0, 1) := by decide +kernel
theorem d_EM_feed_36 : decode b_EM_feed 36 = .ok (.ireturn, 1) := by decide +kernel
theorem d_EM_feedMany_0 : decode b_EM_feedMany 0 = .ok (.aload_n 0, 1) := by decide +kernel
theorem d_EM_feedMany_1 : decode b_EM_feedMany 1 = .ok (.iload 4, 2) := by decide +kernel
theorem d_EM_feedMany_3 : decode b_EM_feedMany 3 = .ok (.ifCond .lt 11, 3) := by decide +kernel
theorem d_EM_feedMany_6 : decode b_EM_feedMany 6 = .ok (.iload 4, 2) := by decide +kernel
theorem d_EM_feedMany_8 : decode b_EM_feedMany 8 = .ok (.sipush 200, 3) := by decide +kernel
theorem d_EM_feedMany_11 : decode b_EM_feedMany 11 = .ok (.if_icmp .le 7, 3) := by decide +kernel
theorem d_EM_feedMany_14 : decode b_EM_feedMany 14 = .ok (.iconst 1, 1) := by decide +kernel
theorem d_EM_feedMany_15 : decode b_EM_feedMany 15 = .ok (.goto 4, 3) := by decide +kernel
theorem d_EM_feedMany_18 : decode b_EM_feedMany 18 = .ok (.iconst 0, 1) := by decide +kernel
theorem d_EM_feedMany_19 : decode b_EM_feedMany 19 = .ok (.putfield 30, 3) := by decide +kernel
theorem d_EM_feedMany_22 : decode b_EM_feedMany 22 = .ok (.aload_n 0, 1) := by decide +kernel
theorem d_EM_feedMany_23 : decode b_EM_feedMany 23 = .ok (.getfield 30, 3) := by decide +kernel
theorem d_EM_feedMany_26 : decode b_EM_feedMany 26 = .ok (.ifCond .le 5, 3) := by decide +kernel
theorem d_EM_feedMany_29 : decode b_EM_feedMany 29 = .ok (.iconst 0, 1) := by decide +kernel
theorem d_EM_feedMany_30 : decode b_EM_feedMany 30 = .ok (.ireturn, 1) := by decide +kernel
theorem d_EM_feedMany_31 : decode b_EM_feedMany 31 = .ok (.aload_n 0, 1) := by decide +kernel
theorem d_EM_feedMany_32 : decode b_EM_feedMany 32 = .ok (.getfield 42, 3) := by decide +kernel
theorem d_EM_feedMany_35 : decode b_EM_feedMany 35 = .ok (.ifCond .eq 6, 3) := by decide +kernel
theorem d_EM_feedMany_38 : decode b_EM_feedMany 38 = .ok (.bipush (-3), 2) := by decide +kernel
theorem d_EM_feedMany_40 : decode b_EM_feedMany 40 = .ok (.ireturn, 1) := by decide +kernel
theorem d_EM_feedMany_41 : decode b_EM_feedMany 41 = .ok (.iconst 0, 1) := by decide +kernel
theorem d_EM_feedMany_42 : decode b_EM_feedMany 42 = .ok (.istore 5, 2) := by decide +kernel
theorem d_EM_feedMany_44 : decode b_EM_feedMany 44 = .ok (.iload 5, 2) := by decide +kernel
theorem d_EM_feedMany_46 : decode b_EM_feedMany 46 = .ok (.iload 4, 2) := by decide +kernel
theorem d_EM_feedMany_48 : decode b_EM_feedMany 48 = .ok (.if_icmp .ge 34, 3) := by decide +kernel
theorem d_EM_feedMany_51 : decode b_EM_feedMany 51 = .ok (.aload_n 0, 1) := by decide +kernel
theorem d_EM_feedMany_52 : decode b_EM_feedMany 52 = .ok (.getfield 33, 3) := by decide +kernel
theorem d_EM_feedMany_55 : decode b_EM_feedMany 55 = .ok (.aload_n 0, 1) := by decide +kernel
theorem d_EM_feedMany_56 : decode b_EM_feedMany 56 = .ok (.getfield 27, 3) := by decide +kernel
theorem d_EM_feedMany_59 : decode b_EM_feedMany 59 = .ok (.if_icmp .ge 23, 3) := by decide +kernel
theorem d_EM_feedMany_62 : decode b_EM_feedMany 62 = .ok (.aload_n 0, 1) := by decide +kernel
theorem d_EM_feedMany_63 : decode b_EM_feedMany 63 = .ok (.iload_n 1, 1) := by decide +kernel
theorem d_EM_feedMany_64 : decode b_EM_feedMany 64 = .ok (.iload 5, 2) := by decide +kernel
theorem d_EM_feedMany_66 : decode b_EM_feedMany 66 = .ok (.iload_n 2, 1) := by decide +kernel
theorem d_EM_feedMany_67 : decode b_EM_feedMany 67 = .ok (.imul, 1) := by decide +kernel
theorem d_EM_feedMany_68 : decode b_EM_feedMany 68 = .ok (.iadd, 1) := by decide +kernel
theorem d_EM_feedMany_69 : decode b_EM_feedMany 69 = .ok (.iload_n 3, 1) := by decide +kernel
theorem d_EM_feedMany_70 : decode b_EM_feedMany 70 = .ok (.iload 5, 2) := by decide +kernel
theorem d_EM_feedMany_72 : decode b_EM_feedMany 72 = .ok (.iadd, 1) := by decide +kernel
theorem d_EM_feedMany_73 : decode b_EM_feedMany 73 = .ok (.invokevirtual 52, 3) := by decide +kernel
theorem d_EM_feedMany_76 : decode b_EM_feedMany 76 = .ok (.iinc 5 1, 3) := by decide +kernel
theorem d_EM_feedMany_79 : decode b_EM_feedMany 79 = .ok (.goto (-35), 3) := by decide +kernel
theorem d_EM_feedMany_82 : decode b_EM_feedMany 82 = .ok (.iload 5, 2) := by decide +kernel
theorem d_EM_feedMany_84 : decode b_EM_feedMany 84 = .ok (.ireturn, 1) := by decide +kernel
theorem d_EM_seal_0 : decode b_EM_seal 0 = .ok (.aload_n 0, 1) := by decide +kernel
theorem d_EM_seal_1 : decode b_EM_seal 1 = .ok (.iconst 0, 1) := by decide +kernel
theorem d_EM_seal_2 : decode b_EM_seal 2 = .ok (.putfield 30, 3) := by decide +kernel
theorem d_EM_seal_5 : decode b_EM_seal 5 = .ok (.aload_n 0, 1) := by decide +kernel
theorem d_EM_seal_6 : decode b_EM_seal 6 = .ok (.getfield 42, 3) := by decide +kernel
theorem d_EM_seal_9 : decode b_EM_seal 9 = .ok (.ifCond .eq 6, 3) := by decide +kernel
theorem d_EM_seal_12 : decode b_EM_seal 12 = .ok (.bipush (-3), 2) := by decide +kernel
theorem d_EM_seal_14 : decode b_EM_seal 14 = .ok (.ireturn, 1) := by decide +kernel
theorem d_EM_seal_15 : decode b_EM_seal 15 = .ok (.aload_n 0, 1) := by decide +kernel
theorem d_EM_seal_16 : decode b_EM_seal 16 = .ok (.iconst 1, 1) := by decide +kernel
theorem d_EM_seal_17 : decode b_EM_seal 17 = .ok (.putfield 42, 3) := by decide +kernel
theorem d_EM_seal_20 : decode b_EM_seal 20 = .ok (.aload_n 0, 1) := by decide +kernel
theorem d_EM_seal_21 : decode b_EM_seal 21 = .ok (.iconst 0, 1) := by decide +kernel
theorem d_EM_seal_22 : decode b_EM_seal 22 = .ok (.putfield 46, 3) := by decide +kernel
theorem d_EM_seal_25 : decode b_EM_seal 25 = .ok (.aload_n 0, 1) := by decide +kernel
theorem d_EM_seal_26 : decode b_EM_seal 26 = .ok (.iconst 0, 1) := by decide +kernel
theorem d_EM_seal_27 : decode b_EM_seal 27 = .ok (.putfield 49, 3) := by decide +kernel
theorem d_EM_seal_30 : decode b_EM_seal 30 = .ok (.iconst 0, 1) := by decide +kernel
theorem d_EM_seal_31 : decode b_EM_seal 31 = .ok (.istore_n 1, 1) := by decide +kernel
theorem d_EM_seal_32 : decode b_EM_seal 32 = .ok (.iload_n 1, 1) := by decide +kernel
theorem d_EM_seal_33 : decode b_EM_seal 33 = .ok (.aload_n 0, 1) := by decide +kernel
theorem d_EM_seal_34 : decode b_EM_seal 34 = .ok (.getfield 33, 3) := by decide +kernel
theorem d_EM_seal_37 : decode b_EM_seal 37 = .ok (.if_icmp .ge 64, 3) := by decide +kernel
theorem d_EM_seal_40 : decode b_EM_seal 40 = .ok (.iload_n 1, 1) := by decide +kernel
theorem d_EM_seal_41 : decode b_EM_seal 41 = .ok (.istore_n 2, 1) := by decide +kernel
theorem d_EM_seal_42 : decode b_EM_seal 42 = .ok (.iload_n 2, 1) := by decide +kernel
theorem d_EM_seal_43 : decode b_EM_seal 43 = .ok (.ifCond .le 45, 3) := by decide +kernel
theorem d_EM_seal_46 : decode b_EM_seal 46 = .ok (.aload_n 0, 1) := by decide +kernel
theorem d_EM_seal_47 : decode b_EM_seal 47 = .ok (.getfield 7, 3) := by decide +kernel
theorem d_EM_seal_50 : decode b_EM_seal 50 = .ok (.aload_n 0, 1) := by decide +kernel
theorem d_EM_seal_51 : decode b_EM_seal 51 = .ok (.getfield 16, 3) := by decide +kernel
theorem d_EM_seal_54 : decode b_EM_seal 54 = .ok (.iload_n 2, 1) := by decide +kernel
theorem d_EM_seal_55 : decode b_EM_seal 55 = .ok (.iconst 1, 1) := by decide +kernel
theorem d_EM_seal_56 : decode b_EM_seal 56 = .ok (.isub, 1) := by decide +kernel
theorem d_EM_seal_57 : decode b_EM_seal 57 = .ok (.iaload, 1) := by decide +kernel
theorem d_EM_seal_58 : decode b_EM_seal 58 = .ok (.iaload, 1) := by decide +kernel
theorem d_EM_seal_59 : decode b_EM_seal 59 = .ok (.aload_n 0, 1) := by decide +kernel
theorem d_EM_seal_60 : decode b_EM_seal 60 = .ok (.getfield 7, 3) := by decide +kernel
theorem d_EM_seal_63 : decode b_EM_seal 63 = .ok (.iload_n 1, 1) := by decide +kernel
theorem d_EM_seal_64 : decode b_EM_seal 64 = .ok (.iaload, 1) := by decide +kernel
theorem d_EM_seal_65 : decode b_EM_seal 65 = .ok (.if_icmp .le 23, 3) := by decide +kernel
theorem d_EM_seal_68 : decode b_EM_seal 68 = .ok (.aload_n 0, 1) := by decide +kernel
theorem d_EM_seal_69 : decode b_EM_seal 69 = .ok (.getfield 16, 3) := by decide +kernel
theorem d_EM_seal_72 : decode b_EM_seal 72 = .ok (.iload_n 2, 1) := by decide +kernel
theorem d_EM_seal_73 : decode b_EM_seal 73 = .ok (.aload_n 0, 1) := by decide +kernel
theorem d_EM_seal_74 : decode b_EM_seal 74 = .ok (.getfield 16, 3) := by decide +kernel
theorem d_EM_seal_77 : decode b_EM_seal 77 = .ok (.iload_n 2, 1) := by decide +kernel
theorem d_EM_seal_78 : decode b_EM_seal 78 = .ok (.iconst 1, 1) := by decide +kernel
theorem d_EM_seal_79 : decode b_EM_seal 79 = .ok (.isub, 1) := by decide +kernel
theorem d_EM_seal_80 : decode b_EM_seal 80 = .ok (.iaload, 1) := by decide +kernel
theorem d_EM_seal_81 : decode b_EM_seal 81 = .ok (.iastore, 1) := by decide +kernel
theorem d_EM_seal_82 : decode b_EM_seal 82 = .ok (.iinc 2 (-1), 3) := by decide +kernel
theorem d_EM_seal_85 : decode b_EM_seal 85 = .ok (.goto (-43), 3) := by decide +kernel
theorem d_EM_seal_88 : decode b_EM_seal 88 = .ok (.aload_n 0, 1) := by decide +kernel
theorem d_EM_seal_89 : decode b_EM_seal 89 = .ok (.getfield 16, 3) := by decide +kernel
theorem d_EM_seal_92 : decode b_EM_seal 92 = .ok (.iload_n 2, 1) := by decide +kernel
theorem d_EM_seal_93 : decode b_EM_seal 93 = .ok (.iload_n 1, 1) := by decide +kernel
theorem d_EM_seal_94 : decode b_EM_seal 94 = .ok (.iastore, 1) := by decide +kernel
theorem d_EM_seal_95 : decode b_EM_seal 95 = .ok (.iinc 1 1, 3) := by decide +kernel
theorem d_EM_seal_98 : decode b_EM_seal 98 = .ok (.goto (-66), 3) := by decide +kernel
theorem d_EM_seal_101 : decode b_EM_seal 101 = .ok (.iconst 0, 1) := by decide +kernel
theorem d_EM_seal_102 : decode b_EM_seal 102 = .ok (.ireturn, 1) := by decide +kernel
theorem d_EM_nextRow_0 : decode b_EM_nextRow 0 = .ok (.aload_n 0, 1) := by decide +kernel
theorem d_EM_nextRow_1 : decode b_EM_nextRow 1 = .ok (.iconst 0, 1) := by decide +kernel
theorem d_EM_nextRow_2 : decode b_EM_nextRow 2 = .ok (.putfield 30, 3) := by decide +kernel
theorem d_EM_nextRow_5 : decode b_EM_nextRow 5 = .ok (.aload_n 0, 1) := by decide +kernel
theorem d_EM_nextRow_6 : decode b_EM_nextRow 6 = .ok (.getfield 42, 3) := by decide +kernel
theorem d_EM_nextRow_9 : decode b_EM_nextRow 9 = .ok (.ifCond .ne 6, 3) := by decide +kernel
theorem d_EM_nextRow_12 : decode b_EM_nextRow 12 = .ok (.bipush (-4), 2) := by decide +kernel
theorem d_EM_nextRow_14 : decode b_EM_nextRow 14 = .ok (.ireturn, 1) := by decide +kernel
theorem d_EM_nextRow_15 : decode b_EM_nextRow 15 = .ok (.aload_n 0, 1) := by decide +kernel
theorem d_EM_nextRow_16 : decode b_EM_nextRow 16 = .ok (.getfield 46, 3) := by decide +kernel
theorem d_EM_nextRow_19 : decode b_EM_nextRow 19 = .ok (.aload_n 0, 1) := by decide +kernel
theorem d_EM_nextRow_20 : decode b_EM_nextRow 20 = .ok (.getfield 33, 3) := by decide +kernel
theorem d_EM_nextRow_23 : decode b_EM_nextRow 23 = .ok (.if_icmp .ne 10, 3) := by decide +kernel
theorem d_EM_nextRow_26 : decode b_EM_nextRow 26 = .ok (.aload_n 0, 1) := by decide +kernel
theorem d_EM_nextRow_27 : decode b_EM_nextRow 27 = .ok (.iconst 0, 1) := by decide +kernel
theorem d_EM_nextRow_28 : decode b_EM_nextRow 28 = .ok (.putfield 49, 3) := by decide +kernel
theorem d_EM_nextRow_31 : decode b_EM_nextRow 31 = .ok (.iconst (-1), 1) := by decide +kernel
theorem d_EM_nextRow_32 : decode b_EM_nextRow 32 = .ok (.ireturn, 1) := by decide +kernel
theorem d_EM_nextRow_33 : decode b_EM_nextRow 33 = .ok (.aload_n 0, 1) := by decide +kernel
theorem d_EM_nextRow_34 : decode b_EM_nextRow 34 = .ok (.iconst 1, 1) := by decide +kernel
theorem d_EM_nextRow_35 : decode b_EM_nextRow 35 = .ok (.putfield 49, 3) := by decide +kernel
theorem d_EM_nextRow_38 : decode b_EM_nextRow 38 = .ok (.aload_n 0, 1) := by decide +kernel
theorem d_EM_nextRow_39 : decode b_EM_nextRow 39 = .ok (.aload_n 0, 1) := by decide +kernel
theorem d_EM_nextRow_40 : decode b_EM_nextRow 40 = .ok (.getfield 7, 3) := by decide +kernel
theorem d_EM_nextRow_43 : decode b_EM_nextRow 43 = .ok (.aload_n 0, 1) := by decide +kernel
theorem d_EM_nextRow_44 : decode b_EM_nextRow 44 = .ok (.getfield 16, 3) := by decide +kernel
theorem d_EM_nextRow_47 : decode b_EM_nextRow 47 = .ok (.aload_n 0, 1) := by decide +kernel
theorem d_EM_nextRow_48 : decode b_EM_nextRow 48 = .ok (.getfield 46, 3) := by decide +kernel
theorem d_EM_nextRow_51 : decode b_EM_nextRow 51 = .ok (.iaload, 1) := by decide +kernel
theorem d_EM_nextRow_52 : decode b_EM_nextRow 52 = .ok (.iaload, 1) := by decide +kernel
theorem d_EM_nextRow_53 : decode b_EM_nextRow 53 = .ok (.putfield 56, 3) := by decide +kernel
theorem d_EM_nextRow_56 : decode b_EM_nextRow 56 = .ok (.aload_n 0, 1) := by decide +kernel
theorem d_EM_nextRow_57 : decode b_EM_nextRow 57 = .ok (.aload_n 0, 1) := by decide +kernel
theorem d_EM_nextRow_58 : decode b_EM_nextRow 58 = .ok (.getfield 13, 3) := by decide +kernel
theorem d_EM_nextRow_61 : decode b_EM_nextRow 61 = .ok (.aload_n 0, 1) := by decide +kernel
theorem d_EM_nextRow_62 : decode b_EM_nextRow 62 = .ok (.getfield 16, 3) := by decide +kernel
theorem d_EM_nextRow_65 : decode b_EM_nextRow 65 = .ok (.aload_n 0, 1) := by decide +kernel
theorem d_EM_nextRow_66 : decode b_EM_nextRow 66 = .ok (.getfield 46, 3) := by decide +kernel
theorem d_EM_nextRow_69 : decode b_EM_nextRow 69 = .ok (.iaload, 1) := by decide +kernel
theorem d_EM_nextRow_70 : decode b_EM_nextRow 70 = .ok (.iaload, 1) := by decide +kernel
theorem d_EM_nextRow_71 : decode b_EM_nextRow 71 = .ok (.putfield 59, 3) := by decide +kernel
theorem d_EM_nextRow_74 : decode b_EM_nextRow 74 = .ok (.aload_n 0, 1) := by decide +kernel
theorem d_EM_nextRow_75 : decode b_EM_nextRow 75 = .ok (.dup, 1) := by decide +kernel
theorem d_EM_nextRow_76 : decode b_EM_nextRow 76 = .ok (.getfield 46, 3) := by decide +kernel
theorem d_EM_nextRow_79 : decode b_EM_nextRow 79 = .ok (.iconst 1, 1) := by decide +kernel
theorem d_EM_nextRow_80 : decode b_EM_nextRow 80 = .ok (.iadd, 1) := by decide +kernel
theorem d_EM_nextRow_81 : decode b_EM_nextRow 81 = .ok (.putfield 46, 3) := by decide +kernel
theorem d_EM_nextRow_84 : decode b_EM_nextRow 84 = .ok (.iconst 1, 1) := by decide +kernel
theorem d_EM_nextRow_85 : decode b_EM_nextRow 85 = .ok (.ireturn, 1) := by decide +kernel
theorem d_EM_nextGroup_0 : decode b_EM_nextGroup 0 = .ok (.aload_n 0, 1) := by decide +kernel
theorem d_EM_nextGroup_1 : decode b_EM_nextGroup 1 = .ok (.iconst 0, 1) := by decide +kernel
theorem d_EM_nextGroup_2 : decode b_EM_nextGroup 2 = .ok (.putfield 30, 3) := by decide +kernel
theorem d_EM_nextGroup_5 : decode b_EM_nextGroup 5 = .ok (.aload_n 0, 1) := by decide +kernel
theorem d_EM_nextGroup_6 : decode b_EM_nextGroup 6 = .ok (.getfield 42, 3) := by decide +kernel
theorem d_EM_nextGroup_9 : decode b_EM_nextGroup 9 = .ok (.ifCond .ne 6, 3) := by decide +kernel
theorem d_EM_nextGroup_12 : decode b_EM_nextGroup 12 = .ok (.bipush (-4), 2) := by decide +kernel
theorem d_EM_nextGroup_14 : decode b_EM_nextGroup 14 = .ok (.ireturn, 1) := by decide +kernel
theorem d_EM_nextGroup_15 : decode b_EM_nextGroup 15 = .ok (.aload_n 0, 1) := by decide +kernel
theorem d_EM_nextGroup_16 : decode b_EM_nextGroup 16 = .ok (.getfield 46, 3) := by decide +kernel
theorem d_EM_nextGroup_19 : decode b_EM_nextGroup 19 = .ok (.aload_n 0, 1) := by decide +kernel
theorem d_EM_nextGroup_20 : decode b_EM_nextGroup 20 = .ok (.getfield 33, 3) := by decide +kernel
theorem d_EM_nextGroup_23 : decode b_EM_nextGroup 23 = .ok (.if_icmp .ne 10, 3) := by decide +kernel
theorem d_EM_nextGroup_26 : decode b_EM_nextGroup 26 = .ok (.aload_n 0, 1) := by decide +kernel
theorem d_EM_nextGroup_27 : decode b_EM_nextGroup 27 = .ok (.iconst 0, 1) := by decide +kernel
theorem d_EM_nextGroup_28 : decode b_EM_nextGroup 28 = .ok (.putfield 49, 3) := by decide +kernel
theorem d_EM_nextGroup_31 : decode b_EM_nextGroup 31 = .ok (.iconst (-1), 1) := by decide +kernel
theorem d_EM_nextGroup_32 : decode b_EM_nextGroup 32 = .ok (.ireturn, 1) := by decide +kernel
theorem d_EM_nextGroup_33 : decode b_EM_nextGroup 33 = .ok (.aload_n 0, 1) := by decide +kernel
theorem d_EM_nextGroup_34 : decode b_EM_nextGroup 34 = .ok (.iconst 2, 1) := by decide +kernel
theorem d_EM_nextGroup_35 : decode b_EM_nextGroup 35 = .ok (.putfield 49, 3) := by decide +kernel
theorem d_EM_nextGroup_38 : decode b_EM_nextGroup 38 = .ok (.aload_n 0, 1) := by decide +kernel
theorem d_EM_nextGroup_39 : decode b_EM_nextGroup 39 = .ok (.aload_n 0, 1) := by decide +kernel
theorem d_EM_nextGroup_40 : decode b_EM_nextGroup 40 = .ok (.getfield 7, 3) := by decide +kernel
theorem d_EM_nextGroup_43 : decode b_EM_nextGroup 43 = .ok (.aload_n 0, 1) := by decide +kernel
theorem d_EM_nextGroup_44 : decode b_EM_nextGroup 44 = .ok (.getfield 16, 3) := by decide +kernel
theorem d_EM_nextGroup_47 : decode b_EM_nextGroup 47 = .ok (.aload_n 0, 1) := by decide +kernel
theorem d_EM_nextGroup_48 : decode b_EM_nextGroup 48 = .ok (.getfield 46, 3) := by decide +kernel
theorem d_EM_nextGroup_51 : decode b_EM_nextGroup 51 = .ok (.iaload, 1) := by decide +kernel
theorem d_EM_nextGroup_52 : decode b_EM_nextGroup 52 = .ok (.iaload, 1) := by decide +kernel
theorem d_EM_nextGroup_53 : decode b_EM_nextGroup 53 = .ok (.putfield 56, 3) := by decide +kernel
theorem d_EM_nextGroup_56 : decode b_EM_nextGroup 56 = .ok (.aload_n 0, 1) := by decide +kernel
theorem d_EM_nextGroup_57 : decode b_EM_nextGroup 57 = .ok (.iconst 0, 1) := by decide +kernel
theorem d_EM_nextGroup_58 : decode b_EM_nextGroup 58 = .ok (.putfield 62, 3) := by decide +kernel
theorem d_EM_nextGroup_61 : decode b_EM_nextGroup 61 = .ok (.aload_n 0, 1) := by decide +kernel
theorem d_EM_nextGroup_62 : decode b_EM_nextGroup 62 = .ok (.iconst 0, 1) := by decide +kernel
theorem d_EM_nextGroup_63 : decode b_EM_nextGroup 63 = .ok (.putfield 65, 3) := by decide +kernel
theorem d_EM_nextGroup_66 : decode b_EM_nextGroup 66 = .ok (.aload_n 0, 1) := by decide +kernel
theorem d_EM_nextGroup_67 : decode b_EM_nextGroup 67 = .ok (.getfield 46, 3) := by decide +kernel
theorem d_EM_nextGroup_70 : decode b_EM_nextGroup 70 = .ok (.aload_n 0, 1) := by decide +kernel
theorem d_EM_nextGroup_71 : decode b_EM_nextGroup 71 = .ok (.getfield 33, 3) := by decide +kernel
theorem d_EM_nextGroup_74 : decode b_EM_nextGroup 74 = .ok (.if_icmp .ge 126, 3) := by decide +kernel
theorem d_EM_nextGroup_77 : decode b_EM_nextGroup 77 = .ok (.aload_n 0, 1) := by decide +kernel
theorem d_EM_nextGroup_78 : decode b_EM_nextGroup 78 = .ok (.getfield 7, 3) := by decide +kernel
theorem d_EM_nextGroup_81 : decode b_EM_nextGroup 81 = .ok (.aload_n 0, 1) := by decide +kernel
theorem d_EM_nextGroup_82 : decode b_EM_nextGroup 82 = .ok (.getfield 16, 3) := by decide +kernel
theorem d_EM_nextGroup_85 : decode b_EM_nextGroup 85 = .ok (.aload_n 0, 1) := by decide +kernel
theorem d_EM_nextGroup_86 : decode b_EM_nextGroup 86 = .ok (.getfield 46, 3) := by decide +kernel
theorem d_EM_nextGroup_89 : decode b_EM_nextGroup 89 = .ok (.iaload, 1) := by decide +kernel
theorem d_EM_nextGroup_90 : decode b_EM_nextGroup 90 = .ok (.iaload, 1) := by decide +kernel
theorem d_EM_nextGroup_91 : decode b_EM_nextGroup 91 = .ok (.aload_n 0, 1) := by decide +kernel
theorem d_EM_nextGroup_92 : decode b_EM_nextGroup 92 = .ok (.getfield 56, 3) := by decide +kernel
theorem d_EM_nextGroup_95 : decode b_EM_nextGroup 95 = .ok (.if_icmp .ne 105, 3) := by decide +kernel
theorem d_EM_nextGroup_98 : decode b_EM_nextGroup 98 = .ok (.aload_n 0, 1) := by decide +kernel
theorem d_EM_nextGroup_99 : decode b_EM_nextGroup 99 = .ok (.getfield 13, 3) := by decide +kernel
theorem d_EM_nextGroup_102 : decode b_EM_nextGroup 102 = .ok (.aload_n 0, 1) := by decide +kernel
theorem d_EM_nextGroup_103 : decode b_EM_nextGroup 103 = .ok (.getfield 16, 3) := by decide +kernel
theorem d_EM_nextGroup_106 : decode b_EM_nextGroup 106 = .ok (.aload_n 0, 1) := by decide +kernel
theorem d_EM_nextGroup_107 : decode b_EM_nextGroup 107 = .ok (.getfield 46, 3) := by decide +kernel
theorem d_EM_nextGroup_110 : decode b_EM_nextGroup 110 = .ok (.iaload, 1) := by decide +kernel
theorem d_EM_nextGroup_111 : decode b_EM_nextGroup 111 = .ok (.iaload, 1) := by decide +kernel
theorem d_EM_nextGroup_112 : decode b_EM_nextGroup 112 = .ok (.istore_n 1, 1) := by decide +kernel
theorem d_EM_nextGroup_113 : decode b_EM_nextGroup 113 = .ok (.aload_n 0, 1) := by decide +kernel
theorem d_EM_nextGroup_114 : decode b_EM_nextGroup 114 = .ok (.aload_n 0, 1) := by decide +kernel
theorem d_EM_nextGroup_115 : decode b_EM_nextGroup 115 = .ok (.getfield 62, 3) := by decide +kernel
theorem d_EM_nextGroup_118 : decode b_EM_nextGroup 118 = .ok (.ifCond .eq 11, 3) := by decide +kernel
theorem d_EM_nextGroup_121 : decode b_EM_nextGroup 121 = .ok (.iload_n 1, 1) := by decide +kernel
theorem d_EM_nextGroup_122 : decode b_EM_nextGroup 122 = .ok (.aload_n 0, 1) := by decide +kernel
theorem d_EM_nextGroup_123 : decode b_EM_nextGroup 123 = .ok (.getfield 68, 3) := by decide +kernel
theorem d_EM_nextGroup_126 : decode b_EM_nextGroup 126 = .ok (.if_icmp .ge 7, 3) := by decide +kernel
theorem d_EM_nextGroup_129 : decode b_EM_nextGroup 129 = .ok (.iload_n 1, 1) := by decide +kernel
theorem d_EM_nextGroup_130 : decode b_EM_nextGroup 130 = .ok (.goto 7, 3) := by decide +kernel
theorem d_EM_nextGroup_133 : decode b_EM_nextGroup 133 = .ok (.aload_n 0, 1) := by decide +kernel
theorem d_EM_nextGroup_134 : decode b_EM_nextGroup 134 = .ok (.getfield 68, 3) := by decide +kernel
theorem d_EM_nextGroup_137 : decode b_EM_nextGroup 137 = .ok (.putfield 68, 3) := by decide +kernel
theorem d_EM_nextGroup_140 : decode b_EM_nextGroup 140 = .ok (.aload_n 0, 1) := by decide +kernel
theorem d_EM_nextGroup_141 : decode b_EM_nextGroup 141 = .ok (.aload_n 0, 1) := by decide +kernel
theorem d_EM_nextGroup_142 : decode b_EM_nextGroup 142 = .ok (.getfield 62, 3) := by decide +kernel
theorem d_EM_nextGroup_145 : decode b_EM_nextGroup 145 = .ok (.ifCond .eq 11, 3) := by decide +kernel
theorem d_EM_nextGroup_148 : decode b_EM_nextGroup 148 = .ok (.iload_n 1, 1) := by decide +kernel
theorem d_EM_nextGroup_149 : decode b_EM_nextGroup 149 = .ok (.aload_n 0, 1) := by decide +kernel
theorem d_EM_nextGroup_150 : decode b_EM_nextGroup 150 = .ok (.getfield 71, 3) := by decide +kernel
theorem d_EM_nextGroup_153 : decode b_EM_nextGroup 153 = .ok (.if_icmp .le 7, 3) := by decide +kernel
theorem d_EM_nextGroup_156 : decode b_EM_nextGroup 156 = .ok (.iload_n 1, 1) := by decide +kernel
theorem d_EM_nextGroup_157 : decode b_EM_nextGroup 157 = .ok (.goto 7, 3) := by decide +kernel
theorem d_EM_nextGroup_160 : decode b_EM_nextGroup 160 = .ok (.aload_n 0, 1) := by decide +kernel
theorem d_EM_nextGroup_161 : decode b_EM_nextGroup 161 = .ok (.getfield 71, 3) := by decide +kernel
theorem d_EM_nextGroup_164 : decode b_EM_nextGroup 164 = .ok (.putfield 71, 3) := by decide +kernel
theorem d_EM_nextGroup_167 : decode b_EM_nextGroup 167 = .ok (.aload_n 0, 1) := by decide +kernel
theorem d_EM_nextGroup_168 : decode b_EM_nextGroup 168 = .ok (.aload_n 0, 1) := by decide +kernel
theorem d_EM_nextGroup_169 : decode b_EM_nextGroup 169 = .ok (.getfield 65, 3) := by decide +kernel
theorem d_EM_nextGroup_172 : decode b_EM_nextGroup 172 = .ok (.iload_n 1, 1) := by decide +kernel
theorem d_EM_nextGroup_173 : decode b_EM_nextGroup 173 = .ok (.iadd, 1) := by decide +kernel
theorem d_EM_nextGroup_174 : decode b_EM_nextGroup 174 = .ok (.putfield 65, 3) := by decide +kernel
theorem d_EM_nextGroup_177 : decode b_EM_nextGroup 177 = .ok (.aload_n 0, 1) := by decide +kernel
theorem d_EM_nextGroup_178 : decode b_EM_nextGroup 178 = .ok (.dup, 1) := by decide +kernel
theorem d_EM_nextGroup_179 : decode b_EM_nextGroup 179 = .ok (.getfield 62, 3) := by decide +kernel
theorem d_EM_nextGroup_182 : decode b_EM_nextGroup 182 = .ok (.iconst 1, 1) := by decide +kernel
theorem d_EM_nextGroup_183 : decode b_EM_nextGroup 183 = .ok (.iadd, 1) := by decide +kernel
theorem d_EM_nextGroup_184 : decode b_EM_nextGroup 184 = .ok (.putfield 62, 3) := by decide +kernel
theorem d_EM_nextGroup_187 : decode b_EM_nextGroup 187 = .ok (.aload_n 0, 1) := by decide +kernel
theorem d_EM_nextGroup_188 : decode b_EM_nextGroup 188 = .ok (.dup, 1) := by decide +kernel
theorem d_EM_nextGroup_189 : decode b_EM_nextGroup 189 = .ok (.getfield 46, 3) := by decide +kernel
theorem d_EM_nextGroup_192 : decode b_EM_nextGroup 192 = .ok (.iconst 1, 1) := by decide +kernel
theorem d_EM_nextGroup_193 : decode b_EM_nextGroup 193 = .ok (.iadd, 1) := by decide +kernel
theorem d_EM_nextGroup_194 : decode b_EM_nextGroup 194 = .ok (.putfield 46, 3) := by decide +kernel
theorem d_EM_nextGroup_197 : decode b_EM_nextGroup 197 = .ok (.goto (-131), 3) := by decide +kernel
theorem d_EM_nextGroup_200 : decode b_EM_nextGroup 200 = .ok (.iconst 2, 1) := by decide +kernel
theorem d_EM_nextGroup_201 : decode b_EM_nextGroup 201 = .ok (.ireturn, 1) := by decide +kernel
theorem d_EM_skipTo_0 : decode b_EM_skipTo 0 = .ok (.aload_n 0, 1) := by decide +kernel
theorem d_EM_skipTo_1 : decode b_EM_skipTo 1 = .ok (.iconst 0, 1) := by decide +kernel
theorem d_EM_skipTo_2 : decode b_EM_skipTo 2 = .ok (.putfield 30, 3) := by decide +kernel
theorem d_EM_skipTo_5 : decode b_EM_skipTo 5 = .ok (.aload_n 0, 1) := by decide +kernel
theorem d_EM_skipTo_6 : decode b_EM_skipTo 6 = .ok (.getfield 42, 3) := by decide +kernel
theorem d_EM_skipTo_9 : decode b_EM_skipTo 9 = .ok (.ifCond .ne 6, 3) := by decide +kernel
theorem d_EM_skipTo_12 : decode b_EM_skipTo 12 = .ok (.bipush (-4), 2) := by decide +kernel
theorem d_EM_skipTo_14 : decode b_EM_skipTo 14 = .ok (.ireturn, 1) := by decide +kernel
theorem d_EM_skipTo_15 : decode b_EM_skipTo 15 = .ok (.iconst 0, 1) := by decide +kernel
theorem d_EM_skipTo_16 : decode b_EM_skipTo 16 = .ok (.istore_n 2, 1) := by decide +kernel
theorem d_EM_skipTo_17 : decode b_EM_skipTo 17 = .ok (.aload_n 0, 1) := by decide +kernel
theorem d_EM_skipTo_18 : decode b_EM_skipTo 18 = .ok (.getfield 46, 3) := by decide +kernel
theorem d_EM_skipTo_21 : decode b_EM_skipTo 21 = .ok (.aload_n 0, 1) := by decide +kernel
theorem d_EM_skipTo_22 : decode b_EM_skipTo 22 = .ok (.getfield 33, 3) := by decide +kernel
theorem d_EM_skipTo_25 : decode b_EM_skipTo 25 = .ok (.if_icmp .ge 37, 3) := by decide +kernel
theorem d_EM_skipTo_28 : decode b_EM_skipTo 28 = .ok (.aload_n 0, 1) := by decide +kernel
theorem d_EM_skipTo_29 : decode b_EM_skipTo 29 = .ok (.getfield 7, 3) := by decide +kernel
theorem d_EM_skipTo_32 : decode b_EM_skipTo 32 = .ok (.aload_n 0, 1) := by decide +kernel
theorem d_EM_skipTo_33 : decode b_EM_skipTo 33 = .ok (.getfield 16, 3) := by decide +kernel
theorem d_EM_skipTo_36 : decode b_EM_skipTo 36 = .ok (.aload_n 0, 1) := by decide +kernel
theorem d_EM_skipTo_37 : decode b_EM_skipTo 37 = .ok (.getfield 46, 3) := by decide +kernel
theorem d_EM_skipTo_40 : decode b_EM_skipTo 40 = .ok (.iaload, 1) := by decide +kernel
theorem d_EM_skipTo_41 : decode b_EM_skipTo 41 = .ok (.iaload, 1) := by decide +kernel
theorem d_EM_skipTo_42 : decode b_EM_skipTo 42 = .ok (.iload_n 1, 1) := by decide +kernel
theorem d_EM_skipTo_43 : decode b_EM_skipTo 43 = .ok (.if_icmp .ge 19, 3) := by decide +kernel
theorem d_EM_skipTo_46 : decode b_EM_skipTo 46 = .ok (.aload_n 0, 1) := by decide +kernel
theorem d_EM_skipTo_47 : decode b_EM_skipTo 47 = .ok (.dup, 1) := by decide +kernel
theorem d_EM_skipTo_48 : decode b_EM_skipTo 48 = .ok (.getfield 46, 3) := by decide +kernel
theorem d_EM_skipTo_51 : decode b_EM_skipTo 51 = .ok (.iconst 1, 1) := by decide +kernel
theorem d_EM_skipTo_52 : decode b_EM_skipTo 52 = .ok (.iadd, 1) := by decide +kernel
theorem d_EM_skipTo_53 : decode b_EM_skipTo 53 = .ok (.putfield 46, 3) := by decide +kernel
theorem d_EM_skipTo_56 : decode b_EM_skipTo 56 = .ok (.iinc 2 1, 3) := by decide +kernel
theorem d_EM_skipTo_59 : decode b_EM_skipTo 59 = .ok (.goto (-42), 3) := by decide +kernel
theorem d_EM_skipTo_62 : decode b_EM_skipTo 62 = .ok (.aload_n 0, 1) := by decide +kernel
theorem d_EM_skipTo_63 : decode b_EM_skipTo 63 = .ok (.iconst 0, 1) := by decide +kernel
theorem d_EM_skipTo_64 : decode b_EM_skipTo 64 = .ok (.putfield 49, 3) := by decide +kernel
theorem d_EM_skipTo_67 : decode b_EM_skipTo 67 = .ok (.iload_n 2, 1) := by decide +kernel
theorem d_EM_skipTo_68 : decode b_EM_skipTo 68 = .ok (.ireturn, 1) := by decide +kernel
theorem d_EM_key_0 : decode b_EM_key 0 = .ok (.aload_n 0, 1) := by decide +kernel
theorem d_EM_key_1 : decode b_EM_key 1 = .ok (.iconst 0, 1) := by decide +kernel
theorem d_EM_key_2 : decode b_EM_key 2 = .ok (.putfield 30, 3) := by decide +kernel
theorem d_EM_key_5 : decode b_EM_key 5 = .ok (.aload_n 0, 1) := by decide +kernel
theorem d_EM_key_6 : decode b_EM_key 6 = .ok (.getfield 49, 3) := by decide +kernel
theorem d_EM_key_9 : decode b_EM_key 9 = .ok (.ifCond .ne 7, 3) := by decide +kernel
theorem d_EM_key_12 : decode b_EM_key 12 = .ok (.iconst 0, 1) := by decide +kernel
theorem d_EM_key_13 : decode b_EM_key 13 = .ok (.goto 7, 3) := by decide +kernel
theorem d_EM_key_16 : decode b_EM_key 16 = .ok (.aload_n 0, 1) := by decide +kernel
theorem d_EM_key_17 : decode b_EM_key 17 = .ok (.getfield 56, 3) := by decide +kernel
theorem d_EM_key_20 : decode b_EM_key 20 = .ok (.ireturn, 1) := by decide +kernel
theorem d_EM_value_0 : decode b_EM_value 0 = .ok (.aload_n 0, 1) := by decide +kernel
theorem d_EM_value_1 : decode b_EM_value 1 = .ok (.iconst 0, 1) := by decide +kernel
theorem d_EM_value_2 : decode b_EM_value 2 = .ok (.putfield 30, 3) := by decide +kernel
theorem d_EM_value_5 : decode b_EM_value 5 = .ok (.aload_n 0, 1) := by decide +kernel
theorem d_EM_value_6 : decode b_EM_value 6 = .ok (.getfield 49, 3) := by decide +kernel
theorem d_EM_value_9 : decode b_EM_value 9 = .ok (.iconst 1, 1) := by decide +kernel
theorem d_EM_value_10 : decode b_EM_value 10 = .ok (.if_icmp .ne 10, 3) := by decide +kernel
theorem d_EM_value_13 : decode b_EM_value 13 = .ok (.aload_n 0, 1) := by decide +kernel
theorem d_EM_value_14 : decode b_EM_value 14 = .ok (.getfield 59, 3) := by decide +kernel
theorem d_EM_value_17 : decode b_EM_value 17 = .ok (.goto 4, 3) := by decide +kernel
theorem d_EM_value_20 : decode b_EM_value 20 = .ok (.iconst 0, 1) := by decide +kernel
theorem d_EM_value_21 : decode b_EM_value 21 = .ok (.ireturn, 1) := by decide +kernel
theorem d_EM_group_0 : decode b_EM_group 0 = .ok (.aload_n 0, 1) := by decide +kernel
theorem d_EM_group_1 : decode b_EM_group 1 = .ok (.iload_n 1, 1) := by decide +kernel
theorem d_EM_group_2 : decode b_EM_group 2 = .ok (.ifCond .lt 8, 3) := by decide +kernel
theorem d_EM_group_5 : decode b_EM_group 5 = .ok (.iload_n 1, 1) := by decide +kernel
theorem d_EM_group_6 : decode b_EM_group 6 = .ok (.iconst 3, 1) := by decide +kernel
theorem d_EM_group_7 : decode b_EM_group 7 = .ok (.if_icmp .le 7, 3) := by decide +kernel
theorem d_EM_group_10 : decode b_EM_group 10 = .ok (.iconst 1, 1) := by decide +kernel
theorem d_EM_group_11 : decode b_EM_group 11 = .ok (.goto 4, 3) := by decide +kernel
theorem d_EM_group_14 : decode b_EM_group 14 = .ok (.iconst 0, 1) := by decide +kernel
theorem d_EM_group_15 : decode b_EM_group 15 = .ok (.putfield 30, 3) := by decide +kernel
theorem d_EM_group_18 : decode b_EM_group 18 = .ok (.aload_n 0, 1) := by decide +kernel
theorem d_EM_group_19 : decode b_EM_group 19 = .ok (.getfield 30, 3) := by decide +kernel
theorem d_EM_group_22 : decode b_EM_group 22 = .ok (.ifCond .gt 11, 3) := by decide +kernel
theorem d_EM_group_25 : decode b_EM_group 25 = .ok (.aload_n 0, 1) := by decide +kernel
theorem d_EM_group_26 : decode b_EM_group 26 = .ok (.getfield 49, 3) := by decide +kernel
theorem d_EM_group_29 : decode b_EM_group 29 = .ok (.iconst 2, 1) := by decide +kernel
theorem d_EM_group_30 : decode b_EM_group 30 = .ok (.if_icmp .eq 5, 3) := by decide +kernel
theorem d_EM_group_33 : decode b_EM_group 33 = .ok (.iconst 0, 1) := by decide +kernel
theorem d_EM_group_34 : decode b_EM_group 34 = .ok (.ireturn, 1) := by decide +kernel
theorem d_EM_group_35 : decode b_EM_group 35 = .ok (.iload_n 1, 1) := by decide +kernel
theorem d_EM_group_36 : decode b_EM_group 36 = .ok (.ifCond .ne 10, 3) := by decide +kernel
theorem d_EM_group_39 : decode b_EM_group 39 = .ok (.aload_n 0, 1) := by decide +kernel
theorem d_EM_group_40 : decode b_EM_group 40 = .ok (.getfield 62, 3) := by decide +kernel
theorem d_EM_group_43 : decode b_EM_group 43 = .ok (.goto 31, 3) := by decide +kernel
theorem d_EM_group_46 : decode b_EM_group 46 = .ok (.iload_n 1, 1) := by decide +kernel
theorem d_EM_group_47 : decode b_EM_group 47 = .ok (.iconst 1, 1) := by decide +kernel
theorem d_EM_group_48 : decode b_EM_group 48 = .ok (.if_icmp .ne 10, 3) := by decide +kernel
theorem d_EM_group_51 : decode b_EM_group 51 = .ok (.aload_n 0, 1) := by decide +kernel
theorem d_EM_group_52 : decode b_EM_group 52 = .ok (.getfield 65, 3) := by decide +kernel
theorem d_EM_group_55 : decode b_EM_group 55 = .ok (.goto 19, 3) := by decide +kernel
theorem d_EM_group_58 : decode b_EM_group 58 = .ok (.iload_n 1, 1) := by decide +kernel
theorem d_EM_group_59 : decode b_EM_group 59 = .ok (.iconst 2, 1) := by decide +kernel
theorem d_EM_group_60 : decode b_EM_group 60 = .ok (.if_icmp .ne 10, 3) := by decide +kernel
theorem d_EM_group_63 : decode b_EM_group 63 = .ok (.aload_n 0, 1) := by decide +kernel
theorem d_EM_group_64 : decode b_EM_group 64 = .ok (.getfield 68, 3) := by decide +kernel
theorem d_EM_group_67 : decode b_EM_group 67 = .ok (.goto 7, 3) := by decide +kernel
theorem d_EM_group_70 : decode b_EM_group 70 = .ok (.aload_n 0, 1) := by decide +kernel
theorem d_EM_group_71 : decode b_EM_group 71 = .ok (.getfield 71, 3) := by decide +kernel
theorem d_EM_group_74 : decode b_EM_group 74 = .ok (.ireturn, 1) := by decide +kernel
theorem d_EM_runsLeft_0 : decode b_EM_runsLeft 0 = .ok (.iconst 0, 1) := by decide +kernel
theorem d_EM_runsLeft_1 : decode b_EM_runsLeft 1 = .ok (.istore_n 1, 1) := by decide +kernel
theorem d_EM_runsLeft_2 : decode b_EM_runsLeft 2 = .ok (.iload_n 1, 1) := by decide +kernel
theorem d_EM_runsLeft_3 : decode b_EM_runsLeft 3 = .ok (.aload_n 0, 1) := by decide +kernel
theorem d_EM_runsLeft_4 : decode b_EM_runsLeft 4 = .ok (.getfield 33, 3) := by decide +kernel
theorem d_EM_runsLeft_7 : decode b_EM_runsLeft 7 = .ok (.if_icmp .ge 16, 3) := by decide +kernel
theorem d_EM_runsLeft_10 : decode b_EM_runsLeft 10 = .ok (.aload_n 0, 1) := by decide +kernel
theorem d_EM_runsLeft_11 : decode b_EM_runsLeft 11 = .ok (.getfield 19, 3) := by decide +kernel
theorem d_EM_runsLeft_14 : decode b_EM_runsLeft 14 = .ok (.iload_n 1, 1) := by decide +kernel
theorem d_EM_runsLeft_15 : decode b_EM_runsLeft 15 = .ok (.iconst 0, 1) := by decide +kernel
theorem d_EM_runsLeft_16 : decode b_EM_runsLeft 16 = .ok (.bastore, 1) := by decide +kernel
theorem d_EM_runsLeft_17 : decode b_EM_runsLeft 17 = .ok (.iinc 1 1, 3) := by decide +kernel
theorem d_EM_runsLeft_20 : decode b_EM_runsLeft 20 = .ok (.goto (-18), 3) := by decide +kernel
theorem d_EM_runsLeft_23 : decode b_EM_runsLeft 23 = .ok (.iconst 0, 1) := by decide +kernel
theorem d_EM_runsLeft_24 : decode b_EM_runsLeft 24 = .ok (.istore_n 1, 1) := by decide +kernel
theorem d_EM_runsLeft_25 : decode b_EM_runsLeft 25 = .ok (.aload_n 0, 1) := by decide +kernel
theorem d_EM_runsLeft_26 : decode b_EM_runsLeft 26 = .ok (.getfield 46, 3) := by decide +kernel
theorem d_EM_runsLeft_29 : decode b_EM_runsLeft 29 = .ok (.istore_n 2, 1) := by decide +kernel
theorem d_EM_runsLeft_30 : decode b_EM_runsLeft 30 = .ok (.iload_n 2, 1) := by decide +kernel
theorem d_EM_runsLeft_31 : decode b_EM_runsLeft 31 = .ok (.aload_n 0, 1) := by decide +kernel
theorem d_EM_runsLeft_32 : decode b_EM_runsLeft 32 = .ok (.getfield 33, 3) := by decide +kernel
theorem d_EM_runsLeft_35 : decode b_EM_runsLeft 35 = .ok (.if_icmp .ge 45, 3) := by decide +kernel
theorem d_EM_runsLeft_38 : decode b_EM_runsLeft 38 = .ok (.aload_n 0, 1) := by decide +kernel
theorem d_EM_runsLeft_39 : decode b_EM_runsLeft 39 = .ok (.getfield 16, 3) := by decide +kernel
theorem d_EM_runsLeft_42 : decode b_EM_runsLeft 42 = .ok (.iload_n 2, 1) := by decide +kernel
theorem d_EM_runsLeft_43 : decode b_EM_runsLeft 43 = .ok (.iaload, 1) := by decide +kernel
theorem d_EM_runsLeft_44 : decode b_EM_runsLeft 44 = .ok (.aload_n 0, 1) := by decide +kernel
theorem d_EM_runsLeft_45 : decode b_EM_runsLeft 45 = .ok (.getfield 23, 3) := by decide +kernel
theorem d_EM_runsLeft_48 : decode b_EM_runsLeft 48 = .ok (.idiv, 1) := by decide +kernel
theorem d_EM_runsLeft_49 : decode b_EM_runsLeft 49 = .ok (.istore_n 3, 1) := by decide +kernel
theorem d_EM_runsLeft_50 : decode b_EM_runsLeft 50 = .ok (.aload_n 0, 1) := by decide +kernel
theorem d_EM_runsLeft_51 : decode b_EM_runsLeft 51 = .ok (.getfield 19, 3) := by decide +kernel
theorem d_EM_runsLeft_54 : decode b_EM_runsLeft 54 = .ok (.iload_n 3, 1) := by decide +kernel
theorem d_EM_runsLeft_55 : decode b_EM_runsLeft 55 = .ok (.baload, 1) := by decide +kernel
theorem d_EM_runsLeft_56 : decode b_EM_runsLeft 56 = .ok (.ifCond .eq 7, 3) := by decide +kernel
theorem d_EM_runsLeft_59 : decode b_EM_runsLeft 59 = .ok (.iload_n 1, 1) := by decide +kernel
theorem d_EM_runsLeft_60 : decode b_EM_runsLeft 60 = .ok (.goto 6, 3) := by decide +kernel
theorem d_EM_runsLeft_63 : decode b_EM_runsLeft 63 = .ok (.iload_n 1, 1) := by decide +kernel
theorem d_EM_runsLeft_64 : decode b_EM_runsLeft 64 = .ok (.iconst 1, 1) := by decide +kernel
theorem d_EM_runsLeft_65 : decode b_EM_runsLeft 65 = .ok (.iadd, 1) := by decide +kernel
theorem d_EM_runsLeft_66 : decode b_EM_runsLeft 66 = .ok (.istore_n 1, 1) := by decide +kernel
theorem d_EM_runsLeft_67 : decode b_EM_runsLeft 67 = .ok (.aload_n 0, 1) := by decide +kernel
theorem d_EM_runsLeft_68 : decode b_EM_runsLeft 68 = .ok (.getfield 19, 3) := by decide +kernel
theorem d_EM_runsLeft_71 : decode b_EM_runsLeft 71 = .ok (.iload_n 3, 1) := by decide +kernel
theorem d_EM_runsLeft_72 : decode b_EM_runsLeft 72 = .ok (.iconst 1, 1) := by decide +kernel
theorem d_EM_runsLeft_73 : decode b_EM_runsLeft 73 = .ok (.bastore, 1) := by decide +kernel
theorem d_EM_runsLeft_74 : decode b_EM_runsLeft 74 = .ok (.iinc 2 1, 3) := by decide +kernel
theorem d_EM_runsLeft_77 : decode b_EM_runsLeft 77 = .ok (.goto (-47), 3) := by decide +kernel
theorem d_EM_runsLeft_80 : decode b_EM_runsLeft 80 = .ok (.iload_n 1, 1) := by decide +kernel
theorem d_EM_runsLeft_81 : decode b_EM_runsLeft 81 = .ok (.ireturn, 1) := by decide +kernel
theorem d_EM_count_0 : decode b_EM_count 0 = .ok (.aload_n 0, 1) := by decide +kernel
theorem d_EM_count_1 : decode b_EM_count 1 = .ok (.iload_n 1, 1) := by decide +kernel
theorem d_EM_count_2 : decode b_EM_count 2 = .ok (.ifCond .lt 8, 3) := by decide +kernel
theorem d_EM_count_5 : decode b_EM_count 5 = .ok (.iload_n 1, 1) := by decide +kernel
theorem d_EM_count_6 : decode b_EM_count 6 = .ok (.iconst 3, 1) := by decide +kernel
theorem d_EM_count_7 : decode b_EM_count 7 = .ok (.if_icmp .le 7, 3) := by decide +kernel
theorem d_EM_count_10 : decode b_EM_count 10 = .ok (.iconst 1, 1) := by decide +kernel
theorem d_EM_count_11 : decode b_EM_count 11 = .ok (.goto 4, 3) := by decide +kernel
theorem d_EM_count_14 : decode b_EM_count 14 = .ok (.iconst 0, 1) := by decide +kernel
theorem d_EM_count_15 : decode b_EM_count 15 = .ok (.putfield 30, 3) := by decide +kernel
theorem d_EM_count_18 : decode b_EM_count 18 = .ok (.aload_n 0, 1) := by decide +kernel
theorem d_EM_count_19 : decode b_EM_count 19 = .ok (.getfield 30, 3) := by decide +kernel
theorem d_EM_count_22 : decode b_EM_count 22 = .ok (.ifCond .le 5, 3) := by decide +kernel
theorem d_EM_count_25 : decode b_EM_count 25 = .ok (.iconst 0, 1) := by decide +kernel
theorem d_EM_count_26 : decode b_EM_count 26 = .ok (.ireturn, 1) := by decide +kernel
theorem d_EM_count_27 : decode b_EM_count 27 = .ok (.iload_n 1, 1) := by decide +kernel
theorem d_EM_count_28 : decode b_EM_count 28 = .ok (.tableswitch 48 0 2 #[28, 33, 43], 28) := by decide +kernel
theorem d_EM_count_56 : decode b_EM_count 56 = .ok (.aload_n 0, 1) := by decide +kernel
theorem d_EM_count_57 : decode b_EM_count 57 = .ok (.getfield 33, 3) := by decide +kernel
theorem d_EM_count_60 : decode b_EM_count 60 = .ok (.ireturn, 1) := by decide +kernel
theorem d_EM_count_61 : decode b_EM_count 61 = .ok (.aload_n 0, 1) := by decide +kernel
theorem d_EM_count_62 : decode b_EM_count 62 = .ok (.getfield 36, 3) := by decide +kernel
theorem d_EM_count_65 : decode b_EM_count 65 = .ok (.aload_n 0, 1) := by decide +kernel
theorem d_EM_count_66 : decode b_EM_count 66 = .ok (.getfield 23, 3) := by decide +kernel
theorem d_EM_count_69 : decode b_EM_count 69 = .ok (.imul, 1) := by decide +kernel
theorem d_EM_count_70 : decode b_EM_count 70 = .ok (.ireturn, 1) := by decide +kernel
theorem d_EM_count_71 : decode b_EM_count 71 = .ok (.aload_n 0, 1) := by decide +kernel
theorem d_EM_count_72 : decode b_EM_count 72 = .ok (.getfield 46, 3) := by decide +kernel
theorem d_EM_count_75 : decode b_EM_count 75 = .ok (.ireturn, 1) := by decide +kernel
theorem d_EM_count_76 : decode b_EM_count 76 = .ok (.aload_n 0, 1) := by decide +kernel
theorem d_EM_count_77 : decode b_EM_count 77 = .ok (.getfield 42, 3) := by decide +kernel
theorem d_EM_count_80 : decode b_EM_count 80 = .ok (.ifCond .eq 10, 3) := by decide +kernel
theorem d_EM_count_83 : decode b_EM_count 83 = .ok (.aload_n 0, 1) := by decide +kernel
theorem d_EM_count_84 : decode b_EM_count 84 = .ok (.invokevirtual 74, 3) := by decide +kernel
theorem d_EM_count_87 : decode b_EM_count 87 = .ok (.goto 7, 3) := by decide +kernel
theorem d_EM_count_90 : decode b_EM_count 90 = .ok (.aload_n 0, 1) := by decide +kernel
theorem d_EM_count_91 : decode b_EM_count 91 = .ok (.getfield 36, 3) := by decide +kernel
theorem d_EM_count_94 : decode b_EM_count 94 = .ok (.ireturn, 1) := by decide +kernel
end
section
-- ===== decode rows (printed by gen/names.py) =====
theorem d_EL_cell_0 : decode b_EL_cell 0 = .ok (.iload_n 1, 1) := by decide +kernel
theorem d_EL_cell_1 : decode b_EL_cell 1 = .ok (.aload_n 0, 1) := by decide +kernel
theorem d_EL_cell_2 : decode b_EL_cell 2 = .ok (.arraylength, 1) := by decide +kernel
theorem d_EL_cell_3 : decode b_EL_cell 3 = .ok (.if_icmp .ge 9, 3) := by decide +kernel
theorem d_EL_cell_6 : decode b_EL_cell 6 = .ok (.aload_n 0, 1) := by decide +kernel
theorem d_EL_cell_7 : decode b_EL_cell 7 = .ok (.iload_n 1, 1) := by decide +kernel
theorem d_EL_cell_8 : decode b_EL_cell 8 = .ok (.iaload, 1) := by decide +kernel
theorem d_EL_cell_9 : decode b_EL_cell 9 = .ok (.goto 4, 3) := by decide +kernel
theorem d_EL_cell_12 : decode b_EL_cell 12 = .ok (.iconst 0, 1) := by decide +kernel
theorem d_EL_cell_13 : decode b_EL_cell 13 = .ok (.ireturn, 1) := by decide +kernel
theorem d_EL_feedMany_0 : decode b_EL_feedMany 0 = .ok (.aload 5, 2) := by decide +kernel
theorem d_EL_feedMany_2 : decode b_EL_feedMany 2 = .ok (.iconst 0, 1) := by decide +kernel
theorem d_EL_feedMany_3 : decode b_EL_feedMany 3 = .ok (.aload_n 0, 1) := by decide +kernel
theorem d_EL_feedMany_4 : decode b_EL_feedMany 4 = .ok (.iload_n 1, 1) := by decide +kernel
theorem d_EL_feedMany_5 : decode b_EL_feedMany 5 = .ok (.iload_n 2, 1) := by decide +kernel
theorem d_EL_feedMany_6 : decode b_EL_feedMany 6 = .ok (.iload_n 3, 1) := by decide +kernel
theorem d_EL_feedMany_7 : decode b_EL_feedMany 7 = .ok (.iload 4, 2) := by decide +kernel
theorem d_EL_feedMany_9 : decode b_EL_feedMany 9 = .ok (.invokevirtual 7, 3) := by decide +kernel
theorem d_EL_feedMany_12 : decode b_EL_feedMany 12 = .ok (.i2l, 1) := by decide +kernel
theorem d_EL_feedMany_13 : decode b_EL_feedMany 13 = .ok (.lastore, 1) := by decide +kernel
theorem d_EL_feedMany_14 : decode b_EL_feedMany 14 = .ok (.goto 7, 3) := by decide +kernel
theorem d_EL_feedMany_17 : decode b_EL_feedMany 17 = .ok (.astore 6, 2) := by decide +kernel
theorem d_EL_feedMany_19 : decode b_EL_feedMany 19 = .ok (.iconst 1, 1) := by decide +kernel
theorem d_EL_feedMany_20 : decode b_EL_feedMany 20 = .ok (.ireturn, 1) := by decide +kernel
theorem d_EL_feedMany_21 : decode b_EL_feedMany 21 = .ok (.iconst 0, 1) := by decide +kernel
theorem d_EL_feedMany_22 : decode b_EL_feedMany 22 = .ok (.ireturn, 1) := by decide +kernel
theorem d_EL_group_0 : decode b_EL_group 0 = .ok (.aload_n 2, 1) := by decide +kernel
theorem d_EL_group_1 : decode b_EL_group 1 = .ok (.iconst 0, 1) := by decide +kernel
theorem d_EL_group_2 : decode b_EL_group 2 = .ok (.aload_n 0, 1) := by decide +kernel
theorem d_EL_group_3 : decode b_EL_group 3 = .ok (.iload_n 1, 1) := by decide +kernel
theorem d_EL_group_4 : decode b_EL_group 4 = .ok (.invokevirtual 15, 3) := by decide +kernel
theorem d_EL_group_7 : decode b_EL_group 7 = .ok (.i2l, 1) := by decide +kernel
theorem d_EL_group_8 : decode b_EL_group 8 = .ok (.lastore, 1) := by decide +kernel
theorem d_EL_group_9 : decode b_EL_group 9 = .ok (.goto 6, 3) := by decide +kernel
theorem d_EL_group_12 : decode b_EL_group 12 = .ok (.astore_n 3, 1) := by decide +kernel
theorem d_EL_group_13 : decode b_EL_group 13 = .ok (.iconst 1, 1) := by decide +kernel
theorem d_EL_group_14 : decode b_EL_group 14 = .ok (.ireturn, 1) := by decide +kernel
theorem d_EL_group_15 : decode b_EL_group 15 = .ok (.iconst 0, 1) := by decide +kernel
theorem d_EL_group_16 : decode b_EL_group 16 = .ok (.ireturn, 1) := by decide +kernel
theorem d_EL_count_0 : decode b_EL_count 0 = .ok (.aload_n 2, 1) := by decide +kernel
theorem d_EL_count_1 : decode b_EL_count 1 = .ok (.iconst 0, 1) := by decide +kernel
theorem d_EL_count_2 : decode b_EL_count 2 = .ok (.aload_n 0, 1) := by decide +kernel
theorem d_EL_count_3 : decode b_EL_count 3 = .ok (.iload_n 1, 1) := by decide +kernel
theorem d_EL_count_4 : decode b_EL_count 4 = .ok (.invokevirtual 19, 3) := by decide +kernel
theorem d_EL_count_7 : decode b_EL_count 7 = .ok (.i2l, 1) := by decide +kernel
theorem d_EL_count_8 : decode b_EL_count 8 = .ok (.lastore, 1) := by decide +kernel
theorem d_EL_count_9 : decode b_EL_count 9 = .ok (.goto 6, 3) := by decide +kernel
theorem d_EL_count_12 : decode b_EL_count 12 = .ok (.astore_n 3, 1) := by decide +kernel
theorem d_EL_count_13 : decode b_EL_count 13 = .ok (.iconst 1, 1) := by decide +kernel
theorem d_EL_count_14 : decode b_EL_count 14 = .ok (.ireturn, 1) := by decide +kernel
theorem d_EL_count_15 : decode b_EL_count 15 = .ok (.iconst 0, 1) := by decide +kernel
theorem d_EL_count_16 : decode b_EL_count 16 = .ok (.ireturn, 1) := by decide +kernel
theorem d_law_0 : decode code 0 = .ok (.new 8, 3) := by decide +kernel
theorem d_law_3 : decode code 3 = .ok (.dup, 1) := by decide +kernel
theorem d_law_4 : decode code 4 = .ok (.aload_n 0, 1) := by decide +kernel
theorem d_law_5 : decode code 5 = .ok (.iconst 0, 1) := by decide +kernel
theorem d_law_6 : decode code 6 = .ok (.invokestatic 22, 3) := by decide +kernel
theorem d_law_9 : decode code 9 = .ok (.aload_n 0, 1) := by decide +kernel
theorem d_law_10 : decode code 10 = .ok (.iconst 1, 1) := by decide +kernel
theorem d_law_11 : decode code 11 = .ok (.invokestatic 22, 3) := by decide +kernel
theorem d_law_14 : decode code 14 = .ok (.invokespecial 28, 3) := by decide +kernel
theorem d_law_17 : decode code 17 = .ok (.astore_n 1, 1) := by decide +kernel
theorem d_law_18 : decode code 18 = .ok (.new 31, 3) := by decide +kernel
theorem d_law_21 : decode code 21 = .ok (.dup, 1) := by decide +kernel
theorem d_law_22 : decode code 22 = .ok (.aload_n 0, 1) := by decide +kernel
theorem d_law_23 : decode code 23 = .ok (.iconst 0, 1) := by decide +kernel
theorem d_law_24 : decode code 24 = .ok (.invokestatic 22, 3) := by decide +kernel
theorem d_law_27 : decode code 27 = .ok (.aload_n 0, 1) := by decide +kernel
theorem d_law_28 : decode code 28 = .ok (.iconst 1, 1) := by decide +kernel
theorem d_law_29 : decode code 29 = .ok (.invokestatic 22, 3) := by decide +kernel
theorem d_law_32 : decode code 32 = .ok (.invokespecial 33, 3) := by decide +kernel
theorem d_law_35 : decode code 35 = .ok (.astore_n 2, 1) := by decide +kernel
theorem d_law_36 : decode code 36 = .ok (.iconst 1, 1) := by decide +kernel
theorem d_law_37 : decode code 37 = .ok (.newarray .long, 2) := by decide +kernel
theorem d_law_39 : decode code 39 = .ok (.astore_n 3, 1) := by decide +kernel
theorem d_law_40 : decode code 40 = .ok (.iconst 2, 1) := by decide +kernel
theorem d_law_41 : decode code 41 = .ok (.istore 4, 2) := by decide +kernel
theorem d_law_43 : decode code 43 = .ok (.iload 4, 2) := by decide +kernel
theorem d_law_45 : decode code 45 = .ok (.aload_n 0, 1) := by decide +kernel
theorem d_law_46 : decode code 46 = .ok (.arraylength, 1) := by decide +kernel
theorem d_law_47 : decode code 47 = .ok (.iconst 5, 1) := by decide +kernel
theorem d_law_48 : decode code 48 = .ok (.isub, 1) := by decide +kernel
theorem d_law_49 : decode code 49 = .ok (.if_icmp .gt 415, 3) := by decide +kernel
theorem d_law_52 : decode code 52 = .ok (.aload_n 0, 1) := by decide +kernel
theorem d_law_53 : decode code 53 = .ok (.iload 4, 2) := by decide +kernel
theorem d_law_55 : decode code 55 = .ok (.iaload, 1) := by decide +kernel
theorem d_law_56 : decode code 56 = .ok (.bipush 15, 2) := by decide +kernel
theorem d_law_58 : decode code 58 = .ok (.iand, 1) := by decide +kernel
theorem d_law_59 : decode code 59 = .ok (.tableswitch 399 0 10 #[57, 68, 105, 197, 210, 223, 236, 261, 274, 287, 343], 57) := by decide +kernel
theorem d_law_116 : decode code 116 = .ok (.aload_n 1, 1) := by decide +kernel
theorem d_law_117 : decode code 117 = .ok (.invokevirtual 34, 3) := by decide +kernel
theorem d_law_120 : decode code 120 = .ok (.aload_n 2, 1) := by decide +kernel
theorem d_law_121 : decode code 121 = .ok (.invokevirtual 37, 3) := by decide +kernel
theorem d_law_124 : decode code 124 = .ok (.goto 334, 3) := by decide +kernel
theorem d_law_127 : decode code 127 = .ok (.aload_n 1, 1) := by decide +kernel
theorem d_law_128 : decode code 128 = .ok (.aload_n 0, 1) := by decide +kernel
theorem d_law_129 : decode code 129 = .ok (.iload 4, 2) := by decide +kernel
theorem d_law_131 : decode code 131 = .ok (.iconst 1, 1) := by decide +kernel
theorem d_law_132 : decode code 132 = .ok (.iadd, 1) := by decide +kernel
theorem d_law_133 : decode code 133 = .ok (.iaload, 1) := by decide +kernel
theorem d_law_134 : decode code 134 = .ok (.aload_n 0, 1) := by decide +kernel
theorem d_law_135 : decode code 135 = .ok (.iload 4, 2) := by decide +kernel
theorem d_law_137 : decode code 137 = .ok (.iconst 2, 1) := by decide +kernel
theorem d_law_138 : decode code 138 = .ok (.iadd, 1) := by decide +kernel
theorem d_law_139 : decode code 139 = .ok (.iaload, 1) := by decide +kernel
theorem d_law_140 : decode code 140 = .ok (.invokevirtual 38, 3) := by decide +kernel
theorem d_law_143 : decode code 143 = .ok (.aload_n 2, 1) := by decide +kernel
theorem d_law_144 : decode code 144 = .ok (.aload_n 0, 1) := by decide +kernel
theorem d_law_145 : decode code 145 = .ok (.iload 4, 2) := by decide +kernel
theorem d_law_147 : decode code 147 = .ok (.iconst 1, 1) := by decide +kernel
theorem d_law_148 : decode code 148 = .ok (.iadd, 1) := by decide +kernel
theorem d_law_149 : decode code 149 = .ok (.iaload, 1) := by decide +kernel
theorem d_law_150 : decode code 150 = .ok (.aload_n 0, 1) := by decide +kernel
theorem d_law_151 : decode code 151 = .ok (.iload 4, 2) := by decide +kernel
theorem d_law_153 : decode code 153 = .ok (.iconst 2, 1) := by decide +kernel
theorem d_law_154 : decode code 154 = .ok (.iadd, 1) := by decide +kernel
theorem d_law_155 : decode code 155 = .ok (.iaload, 1) := by decide +kernel
theorem d_law_156 : decode code 156 = .ok (.invokevirtual 42, 3) := by decide +kernel
theorem d_law_159 : decode code 159 = .ok (.if_icmp .eq 299, 3) := by decide +kernel
theorem d_law_162 : decode code 162 = .ok (.iconst 0, 1) := by decide +kernel
theorem d_law_163 : decode code 163 = .ok (.ireturn, 1) := by decide +kernel
theorem d_law_164 : decode code 164 = .ok (.aload_n 1, 1) := by decide +kernel
theorem d_law_165 : decode code 165 = .ok (.aload_n 0, 1) := by decide +kernel
theorem d_law_166 : decode code 166 = .ok (.iload 4, 2) := by decide +kernel
theorem d_law_168 : decode code 168 = .ok (.iconst 1, 1) := by decide +kernel
theorem d_law_169 : decode code 169 = .ok (.iadd, 1) := by decide +kernel
theorem d_law_170 : decode code 170 = .ok (.iaload, 1) := by decide +kernel
theorem d_law_171 : decode code 171 = .ok (.aload_n 0, 1) := by decide +kernel
theorem d_law_172 : decode code 172 = .ok (.iload 4, 2) := by decide +kernel
theorem d_law_174 : decode code 174 = .ok (.iconst 2, 1) := by decide +kernel
theorem d_law_175 : decode code 175 = .ok (.iadd, 1) := by decide +kernel
theorem d_law_176 : decode code 176 = .ok (.iaload, 1) := by decide +kernel
theorem d_law_177 : decode code 177 = .ok (.aload_n 0, 1) := by decide +kernel
theorem d_law_178 : decode code 178 = .ok (.iload 4, 2) := by decide +kernel
theorem d_law_180 : decode code 180 = .ok (.iconst 3, 1) := by decide +kernel
theorem d_law_181 : decode code 181 = .ok (.iadd, 1) := by decide +kernel
theorem d_law_182 : decode code 182 = .ok (.iaload, 1) := by decide +kernel
theorem d_law_183 : decode code 183 = .ok (.aload_n 0, 1) := by decide +kernel
theorem d_law_184 : decode code 184 = .ok (.iload 4, 2) := by decide +kernel
theorem d_law_186 : decode code 186 = .ok (.iconst 4, 1) := by decide +kernel
theorem d_law_187 : decode code 187 = .ok (.iadd, 1) := by decide +kernel
theorem d_law_188 : decode code 188 = .ok (.iaload, 1) := by decide +kernel
theorem d_law_189 : decode code 189 = .ok (.aload_n 3, 1) := by decide +kernel
theorem d_law_190 : decode code 190 = .ok (.invokestatic 43, 3) := by decide +kernel
theorem d_law_193 : decode code 193 = .ok (.istore 5, 2) := by decide +kernel
theorem d_law_195 : decode code 195 = .ok (.aload_n 2, 1) := by decide +kernel
theorem d_law_196 : decode code 196 = .ok (.aload_n 0, 1) := by decide +kernel
theorem d_law_197 : decode code 197 = .ok (.iload 4, 2) := by decide +kernel
theorem d_law_199 : decode code 199 = .ok (.iconst 1, 1) := by decide +kernel
theorem d_law_200 : decode code 200 = .ok (.iadd, 1) := by decide +kernel
theorem d_law_201 : decode code 201 = .ok (.iaload, 1) := by decide +kernel
theorem d_law_202 : decode code 202 = .ok (.aload_n 0, 1) := by decide +kernel
theorem d_law_203 : decode code 203 = .ok (.iload 4, 2) := by decide +kernel
theorem d_law_205 : decode code 205 = .ok (.iconst 2, 1) := by decide +kernel
theorem d_law_206 : decode code 206 = .ok (.iadd, 1) := by decide +kernel
theorem d_law_207 : decode code 207 = .ok (.iaload, 1) := by decide +kernel
theorem d_law_208 : decode code 208 = .ok (.aload_n 0, 1) := by decide +kernel
theorem d_law_209 : decode code 209 = .ok (.iload 4, 2) := by decide +kernel
theorem d_law_211 : decode code 211 = .ok (.iconst 3, 1) := by decide +kernel
theorem d_law_212 : decode code 212 = .ok (.iadd, 1) := by decide +kernel
theorem d_law_213 : decode code 213 = .ok (.iaload, 1) := by decide +kernel
theorem d_law_214 : decode code 214 = .ok (.aload_n 0, 1) := by decide +kernel
theorem d_law_215 : decode code 215 = .ok (.iload 4, 2) := by decide +kernel
theorem d_law_217 : decode code 217 = .ok (.iconst 4, 1) := by decide +kernel
theorem d_law_218 : decode code 218 = .ok (.iadd, 1) := by decide +kernel
theorem d_law_219 : decode code 219 = .ok (.iaload, 1) := by decide +kernel
theorem d_law_220 : decode code 220 = .ok (.invokevirtual 46, 3) := by decide +kernel
theorem d_law_223 : decode code 223 = .ok (.istore 6, 2) := by decide +kernel
theorem d_law_225 : decode code 225 = .ok (.aload_n 2, 1) := by decide +kernel
theorem d_law_226 : decode code 226 = .ok (.invokevirtual 47, 3) := by decide +kernel
theorem d_law_229 : decode code 229 = .ok (.iload 5, 2) := by decide +kernel
theorem d_law_231 : decode code 231 = .ok (.if_icmp .eq 5, 3) := by decide +kernel
theorem d_law_234 : decode code 234 = .ok (.iconst 0, 1) := by decide +kernel
theorem d_law_235 : decode code 235 = .ok (.ireturn, 1) := by decide +kernel
theorem d_law_236 : decode code 236 = .ok (.iload 5, 2) := by decide +kernel
theorem d_law_238 : decode code 238 = .ok (.ifCond .ne 15, 3) := by decide +kernel
theorem d_law_241 : decode code 241 = .ok (.aload_n 3, 1) := by decide +kernel
theorem d_law_242 : decode code 242 = .ok (.iconst 0, 1) := by decide +kernel
theorem d_law_243 : decode code 243 = .ok (.laload, 1) := by decide +kernel
theorem d_law_244 : decode code 244 = .ok (.iload 6, 2) := by decide +kernel
theorem d_law_246 : decode code 246 = .ok (.i2l, 1) := by decide +kernel
theorem d_law_247 : decode code 247 = .ok (.lcmp, 1) := by decide +kernel
theorem d_law_248 : decode code 248 = .ok (.ifCond .eq 5, 3) := by decide +kernel
theorem d_law_251 : decode code 251 = .ok (.iconst 0, 1) := by decide +kernel
theorem d_law_252 : decode code 252 = .ok (.ireturn, 1) := by decide +kernel
theorem d_law_253 : decode code 253 = .ok (.goto 205, 3) := by decide +kernel
theorem d_law_256 : decode code 256 = .ok (.aload_n 1, 1) := by decide +kernel
theorem d_law_257 : decode code 257 = .ok (.invokevirtual 51, 3) := by decide +kernel
theorem d_law_260 : decode code 260 = .ok (.aload_n 2, 1) := by decide +kernel
theorem d_law_261 : decode code 261 = .ok (.invokevirtual 54, 3) := by decide +kernel
theorem d_law_264 : decode code 264 = .ok (.if_icmp .eq 194, 3) := by decide +kernel
theorem d_law_267 : decode code 267 = .ok (.iconst 0, 1) := by decide +kernel
theorem d_law_268 : decode code 268 = .ok (.ireturn, 1) := by decide +kernel
theorem d_law_269 : decode code 269 = .ok (.aload_n 1, 1) := by decide +kernel
theorem d_law_270 : decode code 270 = .ok (.invokevirtual 55, 3) := by decide +kernel
theorem d_law_273 : decode code 273 = .ok (.aload_n 2, 1) := by decide +kernel
theorem d_law_274 : decode code 274 = .ok (.invokevirtual 58, 3) := by decide +kernel
theorem d_law_277 : decode code 277 = .ok (.if_icmp .eq 181, 3) := by decide +kernel
theorem d_law_280 : decode code 280 = .ok (.iconst 0, 1) := by decide +kernel
theorem d_law_281 : decode code 281 = .ok (.ireturn, 1) := by decide +kernel
theorem d_law_282 : decode code 282 = .ok (.aload_n 1, 1) := by decide +kernel
theorem d_law_283 : decode code 283 = .ok (.invokevirtual 59, 3) := by decide +kernel
theorem d_law_286 : decode code 286 = .ok (.aload_n 2, 1) := by decide +kernel
theorem d_law_287 : decode code 287 = .ok (.invokevirtual 62, 3) := by decide +kernel
theorem d_law_290 : decode code 290 = .ok (.if_icmp .eq 168, 3) := by decide +kernel
theorem d_law_293 : decode code 293 = .ok (.iconst 0, 1) := by decide +kernel
theorem d_law_294 : decode code 294 = .ok (.ireturn, 1) := by decide +kernel
theorem d_law_295 : decode code 295 = .ok (.aload_n 1, 1) := by decide +kernel
theorem d_law_296 : decode code 296 = .ok (.aload_n 0, 1) := by decide +kernel
theorem d_law_297 : decode code 297 = .ok (.iload 4, 2) := by decide +kernel
theorem d_law_299 : decode code 299 = .ok (.iconst 1, 1) := by decide +kernel
theorem d_law_300 : decode code 300 = .ok (.iadd, 1) := by decide +kernel
theorem d_law_301 : decode code 301 = .ok (.iaload, 1) := by decide +kernel
theorem d_law_302 : decode code 302 = .ok (.invokevirtual 63, 3) := by decide +kernel
theorem d_law_305 : decode code 305 = .ok (.aload_n 2, 1) := by decide +kernel
theorem d_law_306 : decode code 306 = .ok (.aload_n 0, 1) := by decide +kernel
theorem d_law_307 : decode code 307 = .ok (.iload 4, 2) := by decide +kernel
theorem d_law_309 : decode code 309 = .ok (.iconst 1, 1) := by decide +kernel
theorem d_law_310 : decode code 310 = .ok (.iadd, 1) := by decide +kernel
theorem d_law_311 : decode code 311 = .ok (.iaload, 1) := by decide +kernel
theorem d_law_312 : decode code 312 = .ok (.invokevirtual 66, 3) := by decide +kernel
theorem d_law_315 : decode code 315 = .ok (.if_icmp .eq 143, 3) := by decide +kernel
theorem d_law_318 : decode code 318 = .ok (.iconst 0, 1) := by decide +kernel
theorem d_law_319 : decode code 319 = .ok (.ireturn, 1) := by decide +kernel
theorem d_law_320 : decode code 320 = .ok (.aload_n 1, 1) := by decide +kernel
theorem d_law_321 : decode code 321 = .ok (.invokevirtual 67, 3) := by decide +kernel
theorem d_law_324 : decode code 324 = .ok (.aload_n 2, 1) := by decide +kernel
theorem d_law_325 : decode code 325 = .ok (.invokevirtual 70, 3) := by decide +kernel
theorem d_law_328 : decode code 328 = .ok (.if_icmp .eq 130, 3) := by decide +kernel
theorem d_law_331 : decode code 331 = .ok (.iconst 0, 1) := by decide +kernel
theorem d_law_332 : decode code 332 = .ok (.ireturn, 1) := by decide +kernel
theorem d_law_333 : decode code 333 = .ok (.aload_n 1, 1) := by decide +kernel
theorem d_law_334 : decode code 334 = .ok (.invokevirtual 71, 3) := by decide +kernel
theorem d_law_337 : decode code 337 = .ok (.aload_n 2, 1) := by decide +kernel
theorem d_law_338 : decode code 338 = .ok (.invokevirtual 74, 3) := by decide +kernel
theorem d_law_341 : decode code 341 = .ok (.if_icmp .eq 117, 3) := by decide +kernel
theorem d_law_344 : decode code 344 = .ok (.iconst 0, 1) := by decide +kernel
theorem d_law_345 : decode code 345 = .ok (.ireturn, 1) := by decide +kernel
theorem d_law_346 : decode code 346 = .ok (.aload_n 1, 1) := by decide +kernel
theorem d_law_347 : decode code 347 = .ok (.aload_n 0, 1) := by decide +kernel
theorem d_law_348 : decode code 348 = .ok (.iload 4, 2) := by decide +kernel
theorem d_law_350 : decode code 350 = .ok (.iconst 1, 1) := by decide +kernel
theorem d_law_351 : decode code 351 = .ok (.iadd, 1) := by decide +kernel
theorem d_law_352 : decode code 352 = .ok (.iaload, 1) := by decide +kernel
theorem d_law_353 : decode code 353 = .ok (.aload_n 3, 1) := by decide +kernel
theorem d_law_354 : decode code 354 = .ok (.invokestatic 75, 3) := by decide +kernel
theorem d_law_357 : decode code 357 = .ok (.istore 5, 2) := by decide +kernel
theorem d_law_359 : decode code 359 = .ok (.aload_n 2, 1) := by decide +kernel
theorem d_law_360 : decode code 360 = .ok (.aload_n 0, 1) := by decide +kernel
theorem d_law_361 : decode code 361 = .ok (.iload 4, 2) := by decide +kernel
theorem d_law_363 : decode code 363 = .ok (.iconst 1, 1) := by decide +kernel
theorem d_law_364 : decode code 364 = .ok (.iadd, 1) := by decide +kernel
theorem d_law_365 : decode code 365 = .ok (.iaload, 1) := by decide +kernel
theorem d_law_366 : decode code 366 = .ok (.invokevirtual 78, 3) := by decide +kernel
theorem d_law_369 : decode code 369 = .ok (.istore 6, 2) := by decide +kernel
theorem d_law_371 : decode code 371 = .ok (.aload_n 2, 1) := by decide +kernel
theorem d_law_372 : decode code 372 = .ok (.invokevirtual 47, 3) := by decide +kernel
theorem d_law_375 : decode code 375 = .ok (.iload 5, 2) := by decide +kernel
theorem d_law_377 : decode code 377 = .ok (.if_icmp .eq 5, 3) := by decide +kernel
theorem d_law_380 : decode code 380 = .ok (.iconst 0, 1) := by decide +kernel
theorem d_law_381 : decode code 381 = .ok (.ireturn, 1) := by decide +kernel
theorem d_law_382 : decode code 382 = .ok (.iload 5, 2) := by decide +kernel
theorem d_law_384 : decode code 384 = .ok (.ifCond .ne 15, 3) := by decide +kernel
theorem d_law_387 : decode code 387 = .ok (.aload_n 3, 1) := by decide +kernel
theorem d_law_388 : decode code 388 = .ok (.iconst 0, 1) := by decide +kernel
theorem d_law_389 : decode code 389 = .ok (.laload, 1) := by decide +kernel
theorem d_law_390 : decode code 390 = .ok (.iload 6, 2) := by decide +kernel
theorem d_law_392 : decode code 392 = .ok (.i2l, 1) := by decide +kernel
theorem d_law_393 : decode code 393 = .ok (.lcmp, 1) := by decide +kernel
theorem d_law_394 : decode code 394 = .ok (.ifCond .eq 5, 3) := by decide +kernel
theorem d_law_397 : decode code 397 = .ok (.iconst 0, 1) := by decide +kernel
theorem d_law_398 : decode code 398 = .ok (.ireturn, 1) := by decide +kernel
theorem d_law_399 : decode code 399 = .ok (.goto 59, 3) := by decide +kernel
theorem d_law_402 : decode code 402 = .ok (.aload_n 1, 1) := by decide +kernel
theorem d_law_403 : decode code 403 = .ok (.aload_n 0, 1) := by decide +kernel
theorem d_law_404 : decode code 404 = .ok (.iload 4, 2) := by decide +kernel
theorem d_law_406 : decode code 406 = .ok (.iconst 1, 1) := by decide +kernel
theorem d_law_407 : decode code 407 = .ok (.iadd, 1) := by decide +kernel
theorem d_law_408 : decode code 408 = .ok (.iaload, 1) := by decide +kernel
theorem d_law_409 : decode code 409 = .ok (.aload_n 3, 1) := by decide +kernel
theorem d_law_410 : decode code 410 = .ok (.invokestatic 79, 3) := by decide +kernel
theorem d_law_413 : decode code 413 = .ok (.istore 5, 2) := by decide +kernel
theorem d_law_415 : decode code 415 = .ok (.aload_n 2, 1) := by decide +kernel
theorem d_law_416 : decode code 416 = .ok (.aload_n 0, 1) := by decide +kernel
theorem d_law_417 : decode code 417 = .ok (.iload 4, 2) := by decide +kernel
theorem d_law_419 : decode code 419 = .ok (.iconst 1, 1) := by decide +kernel
theorem d_law_420 : decode code 420 = .ok (.iadd, 1) := by decide +kernel
theorem d_law_421 : decode code 421 = .ok (.iaload, 1) := by decide +kernel
theorem d_law_422 : decode code 422 = .ok (.invokevirtual 81, 3) := by decide +kernel
theorem d_law_425 : decode code 425 = .ok (.istore 6, 2) := by decide +kernel
theorem d_law_427 : decode code 427 = .ok (.aload_n 2, 1) := by decide +kernel
theorem d_law_428 : decode code 428 = .ok (.invokevirtual 47, 3) := by decide +kernel
theorem d_law_431 : decode code 431 = .ok (.iload 5, 2) := by decide +kernel
theorem d_law_433 : decode code 433 = .ok (.if_icmp .eq 5, 3) := by decide +kernel
theorem d_law_436 : decode code 436 = .ok (.iconst 0, 1) := by decide +kernel
theorem d_law_437 : decode code 437 = .ok (.ireturn, 1) := by decide +kernel
theorem d_law_438 : decode code 438 = .ok (.iload 5, 2) := by decide +kernel
theorem d_law_440 : decode code 440 = .ok (.ifCond .ne 15, 3) := by decide +kernel
theorem d_law_443 : decode code 443 = .ok (.aload_n 3, 1) := by decide +kernel
theorem d_law_444 : decode code 444 = .ok (.iconst 0, 1) := by decide +kernel
theorem d_law_445 : decode code 445 = .ok (.laload, 1) := by decide +kernel
theorem d_law_446 : decode code 446 = .ok (.iload 6, 2) := by decide +kernel
theorem d_law_448 : decode code 448 = .ok (.i2l, 1) := by decide +kernel
theorem d_law_449 : decode code 449 = .ok (.lcmp, 1) := by decide +kernel
theorem d_law_450 : decode code 450 = .ok (.ifCond .eq 5, 3) := by decide +kernel
theorem d_law_453 : decode code 453 = .ok (.iconst 0, 1) := by decide +kernel
theorem d_law_454 : decode code 454 = .ok (.ireturn, 1) := by decide +kernel
theorem d_law_455 : decode code 455 = .ok (.goto 3, 3) := by decide +kernel
theorem d_law_458 : decode code 458 = .ok (.iinc 4 5, 3) := by decide +kernel
theorem d_law_461 : decode code 461 = .ok (.goto (-418), 3) := by decide +kernel
theorem d_law_464 : decode code 464 = .ok (.iconst 1, 1) := by decide +kernel
theorem d_law_465 : decode code 465 = .ok (.ireturn, 1) := by decide +kernel
end
section
/-! ===== the layer of rows over the kit's: one word list for all methods; numbers that are naturals; a world as one hypothesis ===== -/
theorem tb_good : ∀ w ∈ tb, ((w.onTables && w.keeps) = true ∨ ∃ ty, w = .arrayClass ty) := fun w h => good_of_word (List.mem_filter.mp h).2
theorem tb_lw : ∀ w ∈ tb, w ∈ lw_tbl := fun w h => (List.mem_filter.mp h).1
theorem tb_in {ws : List Cond} (h : ∀ w ∈ ws, w ∈ tb) : GoodIn tb ws := fun w hw => ⟨h w hw, tb_good w (h w hw)⟩
def wd (y : MethodName) (b : ByteArray) (n : Nat) (r : Option FieldType) : List Cond := .code y b n r :: tb
theorem gd_V {own C : String} {idx : Nat} {y : MethodName} {b : ByteArray} {n : Nat} {r : Option FieldType} (h : ∀ w ∈ ([.methodLink own idx y, .instanceMethod y, .selects C y y, .initialized C, .code y b n r] : List Cond), w ∈ tb) : GoodIn tb (wsV own idx C y (wd y b n r)) := by
  refine tb_in fun w hw => ?_
  rcases List.mem_append.mp hw with hw | hw
  · exact h w (List.mem_append_left [Cond.code y b n r] hw)
  · rcases List.mem_cons.mp hw with rfl | hw
    · exact h _ (by simp)
    · exact hw
def bI (b : Bool) : Int32 := if b then 1 else 0
def wI (o : Option Nat) : Int32 := match o with
  | none => -1
  | some k => nI k
def nA (f : Nat → Nat) : Nat → Int32 := fun j => nI (f j)
def wA (f : Nat → Option Nat) : Nat → Int32 := fun j => wI (f j)
def bA (f : Nat → Bool) : Nat → Int32 := fun j => bI (f j)
theorem upd_nA (f : Nat → Nat) (k v : Nat) : upd (nA f) k (nI v) = nA (va_up f k v) := by
  funext j; simp only [upd, nA, va_up]; split <;> rfl
theorem upd_wA (f : Nat → Option Nat) (k : Nat) (v : Option Nat) : upd (wA f) k (wI v) = wA (va_up f k v) := by
  funext j; simp only [upd, wA, va_up]; split <;> rfl
theorem upd_bA (f : Nat → Bool) (k : Nat) (v : Bool) : upd (bA f) k (bI v) = bA (va_up f k v) := by
  funext j; simp only [upd, bA, va_up]; split <;> rfl
theorem bI_nar (b : Bool) : narrow .boolean (.int (bI b)) = .int (bI b) := by cases b <;> decide
theorem bI_fit (b : Bool) : fits .boolean (.int (bI b)) = true := by cases b <;> decide
theorem bI_ne (b : Bool) : ¬ bI b = 0 ↔ b = true := by cases b <;> decide
theorem bI_eq (b : Bool) : bI b = 0 ↔ b = false := by cases b <;> decide
theorem wI_none {o : Option Nat} (h : ∀ k, o = some k → k < 2 ^ 31) : wI o = -1 ↔ o = none := by
  cases o with
  | none => exact ⟨fun _ => rfl, fun _ => rfl⟩
  | some k =>
    refine ⟨fun q => ?_, fun q => by cases q⟩
    have h1 := nI_toInt (h k rfl)
    rw [show nI k = -1 from q] at h1
    have h2 : (-1 : Int32).toInt = -1 := by decide
    omega
/-! the tables' array classes, in one order for all -/
abbrev tyL (cI cZ cJ : ClassId) : List (ClassId × FieldType) := [(cI, .int), (cZ, .boolean), (cJ, .long)]
/-! the world of an ExternalSorter: its cell and its eight arrays -/
def esF (q : Nat → Nat) (w sp held spilled fed : Nat) (sealed : Bool) (runs size consumed : Nat) (current key value many sum least greatest : Int32) : List Value :=
  [.int (nI w), .int (nI (sp + w)), .ref (q 1), .ref (q 2), .ref (q 3), .int (nI held), .ref (q 4), .ref (q 5), .int (nI spilled), .int (nI fed), .int (bI sealed), .ref (q 6), .ref (q 7), .int (nI runs), .ref (q 8), .int (nI size), .int (nI consumed), .int current, .int key, .int value, .int many, .int sum, .int least, .int greatest]
def esW (cI : ClassId) (q : Nat → Nat) (w sp mo wl : Nat) (fk fv fp sk sv : Nat → Int32) (ats ens : Nat → Nat) (wn : Nat → Option Nat) (held spilled fed : Nat) (sealed : Bool) (runs size consumed : Nat) (current key value many sum least greatest : Int32) : va_W :=
  [(q 0, .inr (0, esF q w sp held spilled fed sealed runs size consumed current key value many sum least greatest)), (q 1, .inl (cI, w, .inl fk)), (q 2, .inl (cI, w, .inl fv)), (q 3, .inl (cI, w, .inl fp)), (q 4, .inl (cI, sp, .inl sk)), (q 5, .inl (cI, sp, .inl sv)), (q 6, .inl (cI, mo, .inl (nA ats))), (q 7, .inl (cI, mo, .inl (nA ens))), (q 8, .inl (cI, wl, .inl (wA wn)))]
/-! the world of an ExternalSorterModel: its cell and its four arrays -/
def emF (q : Nat → Nat) (thrown : Int32) (wide room fed spills held : Nat) (reading : Bool) (gone : Nat) (current key value many sum least most : Int32) : List Value :=
  [.int thrown, .int (nI wide), .int (nI room), .int (nI fed), .int (nI spills), .int (nI held), .int (bI reading), .int (nI gone), .int current, .int key, .int value, .int many, .int sum, .int least, .int most, .ref (q 1), .ref (q 2), .ref (q 3), .ref (q 4)]
def emW (cI cZ : ClassId) (q : Nat → Nat) (K V : Nat → Int32) (ord : Nat → Nat) (lf : Nat → Bool) (thrown : Int32) (wide room fed spills held : Nat) (reading : Bool) (gone : Nat) (current key value many sum least most : Int32) : va_W :=
  [(q 0, .inr (1, emF q thrown wide room fed spills held reading gone current key value many sum least most)), (q 1, .inl (cI, 2064, .inl K)), (q 2, .inl (cI, 2064, .inl V)), (q 3, .inl (cI, 2064, .inl (nA ord))), (q 4, .inl (cZ, 2064, .inl (bA lf)))]
/-! a method's standing facts; the world at a point of its walk -/
abbrev Cx (p : Program) (m : MethodId) (meth : Method) (c : Code) (cc : ByteArray) (nL : Nat) (rt : Option FieldType) (s : State) (args : Array Value) (own : String) : Prop := CallFix p m c cc nL s args tb own ∧ meth.sig.returnType = rt ∧ meth.locks = false
def Wd (D : va_G) (tys : List (ClassId × FieldType)) (A : Nat → Prop) (s : State) (H : Heap) (locs : List Loc) (W0 : va_W) : Prop := va_K D classes tys s ∧ va_P D classes W0 H ∧ va_D A W0 ∧ va_S A s.heap H locs
theorem Wd.sub {D : va_G} {tys : List (ClassId × FieldType)} {A : Nat → Prop} {s : State} {H : Heap} {locs : List Loc} {W0 W1 : va_W} (hw : Wd D tys A s H locs W0) (is : List Nat) (hn : va_nd is = true) (h1 : is.filterMap (fun i => W0[i]?) = W1) (h2 : is.map (fun i => W0[i]?) = W1.map some) : Wd D tys A s H locs W1 := ⟨hw.1, hw.2.1.sub is h1, hw.2.2.1.sub is hn h2, hw.2.2.2⟩
def cPre (D : va_G) (tys : List (ClassId × FieldType)) (W0 : va_W) (sz : Nat) : State → Prop := fun U => U.heap.size = sz ∧ va_P D classes W0 U.heap ∧ va_K D classes tys U ∧ va_D (fun _ => True) W0
def cB {S : Type} (D : va_G) (tys : List (ClassId × FieldType)) (A : Nat → Prop) (W1 : S → va_W) : S → State → Prop := fun u t => va_P D classes (W1 u) t.heap ∧ va_K D classes tys t ∧ va_D A (W1 u)
/-- a contract with an int for its answer: from the world W0 to a world W1 u, 'post answer u' -/
def MetI {S : Type} (l : Launch) (y : MethodName) (b : ByteArray) (n : Nat) (rt : Option FieldType) (rm : Room) (D : va_G) (tys : List (ClassId × FieldType)) (av : List Value) (W0 : va_W) (sz : Nat) (post : Int32 → S → Prop) (W1 : S → va_W) : Prop :=
  Met l y (wd y b n rt) rm (va_Pc av (cPre D tys W0 sz)) (va_Qi post (cB D tys (va_A W0 sz) W1) (va_A W0 sz)) rm.cells rm.slots (va_A W0 sz)
def MetV {S : Type} (l : Launch) (y : MethodName) (b : ByteArray) (n : Nat) (rm : Room) (D : va_G) (tys : List (ClassId × FieldType)) (av : List Value) (W0 : va_W) (sz : Nat) (post : S → Prop) (W1 : S → va_W) : Prop :=
  Met l y (wd y b n none) rm (va_Pc av (cPre D tys W0 sz)) (va_Qv post (cB D tys (va_A W0 sz) W1) (va_A W0 sz)) rm.cells rm.slots (va_A W0 sz)
theorem cPre_blind {av : List Value} {D : va_G} {tys : List (ClassId × FieldType)} {W0 : va_W} {sz : Nat} : FrameBlind (va_Pc av (cPre D tys W0 sz)) := fun a U g mk q => by
  obtain ⟨q0, q1, qP, qK, qD⟩ := q
  exact ⟨q0, q1, qP, va_K.moved (u := U) (U := U.calling g mk a) (Vm.Alike.refl U.vm) qK, qD⟩
theorem MetI.of {S : Type} {l : Launch} {y : MethodName} {b : ByteArray} {n : Nat} {rt : Option FieldType} {rm : Room} {D : va_G} {tys : List (ClassId × FieldType)} {av : List Value} {W0 : va_W} {sz : Nat} {post : Int32 → S → Prop} {W1 : S → va_W} (hy : plainName y.cls = true) (hav : (lg_sl av).length ≤ n)
    (body : ∀ (p : Program) (e : Env) (s : State) (m : MethodId) (below : List Frame) (meth : Method) (c : Code) (A : Nat → Prop) (ls : Array Slot), Cx p m meth c b n rt s av.toArray y.cls → meth.name = y.name → (∀ q : Nat, s.heap.size ≤ q → A q) → Wd D tys A s s.heap [] W0 → lv_has ls n (lv_args 0 av) →
      W p l e rm s m av.toArray below meth c s.heap [] 0 0 (MQ below (va_Qi post (cB D tys A W1) A) av.toArray s rm.cells rm.slots A) (F0 m 0 ls [])) : MetI l y b n rt rm D tys av W0 sz post W1 := by
  refine Met.ofW (cc := b) (maxL := n) (ret := rt) hy rfl ?_
  intro p e s m args below meth c s₁ B hml hv
  obtain ⟨rfl, hsz, hP, hK, hD0⟩ := hv
  have hts := atoms_spec (ws := wd y b n rt) B.pre
  have hown : s.vm.findClass y.cls = some m.cls := findClass_of_methodNamed B.named
  have hnm : meth.name = y.name := (name_of_methodNamed B.named B.method).1
  subst hsz
  rw [lg_entry_eq]
  exact body p e s m below meth c (va_A W0 s.heap.size) _ ⟨⟨B.exec, B.bytes, hml, hown, fun w hw => hts w (List.mem_cons_of_mem _ hw)⟩, B.returns, B.notSynchronized⟩ hnm (fun q h => Or.inr h) ⟨hK, hP, hD0.self, va_S.rf⟩ (lv_entry av hav)
theorem MetV.of {S : Type} {l : Launch} {y : MethodName} {b : ByteArray} {n : Nat} {rm : Room} {D : va_G} {tys : List (ClassId × FieldType)} {av : List Value} {W0 : va_W} {sz : Nat} {post : S → Prop} {W1 : S → va_W} (hy : plainName y.cls = true) (hav : (lg_sl av).length ≤ n)
    (body : ∀ (p : Program) (e : Env) (s : State) (m : MethodId) (below : List Frame) (meth : Method) (c : Code) (A : Nat → Prop) (ls : Array Slot), Cx p m meth c b n none s av.toArray y.cls → meth.name = y.name → (∀ q : Nat, s.heap.size ≤ q → A q) → Wd D tys A s s.heap [] W0 → lv_has ls n (lv_args 0 av) →
      W p l e rm s m av.toArray below meth c s.heap [] 0 0 (MQ below (va_Qv post (cB D tys A W1) A) av.toArray s rm.cells rm.slots A) (F0 m 0 ls [])) : MetV l y b n rm D tys av W0 sz post W1 := by
  refine Met.ofW (cc := b) (maxL := n) (ret := none) hy rfl ?_
  intro p e s m args below meth c s₁ B hml hv
  obtain ⟨rfl, hsz, hP, hK, hD0⟩ := hv
  have hts := atoms_spec (ws := wd y b n none) B.pre
  have hown : s.vm.findClass y.cls = some m.cls := findClass_of_methodNamed B.named
  have hnm : meth.name = y.name := (name_of_methodNamed B.named B.method).1
  subst hsz
  rw [lg_entry_eq]
  exact body p e s m below meth c (va_A W0 s.heap.size) _ ⟨⟨B.exec, B.bytes, hml, hown, fun w hw => hts w (List.mem_cons_of_mem _ hw)⟩, B.returns, B.notSynchronized⟩ hnm (fun q h => Or.inr h) ⟨hK, hP, hD0.self, va_S.rf⟩ (lv_entry av hav)
section ZR
variable {p : Program} {l : Launch} {e : Env} {R : Room} {s : State} {m : MethodId} {args : Array Value} {below : List Frame} {meth : Method} {c : Code} {H : Heap} {locs : List Loc} {cells slots : Nat} {Q : State → Prop}
variable {cc : ByteArray} {pc nL : Nat} {rt : Option FieldType} {ls : Array Slot} {rest : List Value} {D : va_G} {A : Nat → Prop} {tys : List (ClassId × FieldType)} {W0 : va_W} {own : String}
/-! fields -/
theorem es_get (C : Cx p m meth c cc nL rt s args R_ES) (hw : Wd D tys A s H locs W0) {a : Nat} {fs : List Value} (he : W0[0]? = some (a, .inr (0, fs))) {k idx : Nat} (hlk : k < 24 ∧ Cond.fieldLink R_ES idx R_ES (F_ES k).2.1 (F_ES k).2.2.1 ∈ tb) {v : Value} (hv : fs[k]? = some v) (hdg : decode cc pc = .ok (.getfield idx, 3))
    (kk : W p l e R s m args below meth c H locs cells slots Q (F0 m (pc + 3) ls (v :: rest))) : W p l e R s m args below meth c H locs cells slots Q (F0 m pc ls (.ref a :: rest)) :=
  va_get (D := D) C.1.1 C.1.2.1 C.1.2.2.2.2 i_ES C.1.2.2.2.1 hw.1 hw.2.1 0 he rfl k hlk.1 (C.1.2.2.2.2 _ hlk.2) (fun _ h => by rw [o_ES] at h; exact h) hv hdg kk
theorem es_put (C : Cx p m meth c cc nL rt s args R_ES) (hw : Wd D tys A s H locs W0) {a : Nat} {fs : List Value} (he : W0[0]? = some (a, .inr (0, fs))) {k idx : Nat} (hlk : k < 24 ∧ Cond.fieldLink R_ES idx R_ES (F_ES k).2.1 (F_ES k).2.2.1 ∈ tb) {v : Value} (hfin : (F_ES k).2.2.2 = false) (hn : narrow (t_ES k) v = v) (hfit : fits (t_ES k) v = true) (hl : k < fs.length) {W1 : va_W} (hW : W0.set 0 (a, .inr (0, fs.set k v)) = W1) (hdg : decode cc pc = .ok (.putfield idx, 3))
    (kk : ∀ (H : Heap) (locs : List Loc), Wd D tys A s H locs W1 → W p l e R s m args below meth c H locs cells slots Q (F0 m (pc + 3) ls rest)) : W p l e R s m args below meth c H locs cells slots Q (F0 m pc ls (v :: .ref a :: rest)) := by
  subst hW
  exact va_put (D := D) C.1.1 C.1.2.1 C.1.2.2.2.2 i_ES t_ES t_ES_ok n_ES C.1.2.2.2.1 hw.1 hw.2.1 hw.2.2.1 hw.2.2.2 0 he rfl k hlk.1 (C.1.2.2.2.2 _ hlk.2) (fun _ h => by rw [o_ES] at h; exact h) hfin (t_ES_ok k hlk.1) hn hfit hl hdg (fun H1 locs1 a b d => kk H1 locs1 ⟨hw.1, a, b, d⟩)
theorem es_putF (C : Cx p m meth c cc nL rt s args R_ES) (hi2 : meth.name = "<init>") (hw : Wd D tys A s H locs W0) {a : Nat} {fs : List Value} (he : W0[0]? = some (a, .inr (0, fs))) {k idx : Nat} (hlk : k < 24 ∧ Cond.fieldLink R_ES idx R_ES (F_ES k).2.1 (F_ES k).2.2.1 ∈ tb) {v : Value} (hfin : (F_ES k).2.2.2 = true) (hn : narrow (t_ES k) v = v) (hfit : fits (t_ES k) v = true) (hl : k < fs.length) {W1 : va_W} (hW : W0.set 0 (a, .inr (0, fs.set k v)) = W1) (hdg : decode cc pc = .ok (.putfield idx, 3))
    (kk : ∀ (H : Heap) (locs : List Loc), Wd D tys A s H locs W1 → W p l e R s m args below meth c H locs cells slots Q (F0 m (pc + 3) ls rest)) : W p l e R s m args below meth c H locs cells slots Q (F0 m pc ls (v :: .ref a :: rest)) := by
  subst hW
  exact va_putF (D := D) C.1.1 C.1.2.1 C.1.2.2.2.2 i_ES t_ES t_ES_ok n_ES C.1.2.2.2.1 hw.1 hw.2.1 hw.2.2.1 hw.2.2.2 0 he rfl k hlk.1 (C.1.2.2.2.2 _ hlk.2) (fun _ h => by rw [o_ES] at h; exact h) hfin hi2 (o_ES k) (t_ES_ok k hlk.1) hn hfit hl hdg (fun H1 locs1 a b d => kk H1 locs1 ⟨hw.1, a, b, d⟩)
theorem em_get (C : Cx p m meth c cc nL rt s args R_EM) (hw : Wd D tys A s H locs W0) {a : Nat} {fs : List Value} (he : W0[0]? = some (a, .inr (1, fs))) {k idx : Nat} (hlk : k < 19 ∧ Cond.fieldLink R_EM idx R_EM (F_EM k).2.1 (F_EM k).2.2.1 ∈ tb) {v : Value} (hv : fs[k]? = some v) (hdg : decode cc pc = .ok (.getfield idx, 3))
    (kk : W p l e R s m args below meth c H locs cells slots Q (F0 m (pc + 3) ls (v :: rest))) : W p l e R s m args below meth c H locs cells slots Q (F0 m pc ls (.ref a :: rest)) :=
  va_get (D := D) C.1.1 C.1.2.1 C.1.2.2.2.2 i_EM C.1.2.2.2.1 hw.1 hw.2.1 0 he rfl k hlk.1 (C.1.2.2.2.2 _ hlk.2) (fun _ h => by rw [o_EM] at h; exact h) hv hdg kk
theorem em_put (C : Cx p m meth c cc nL rt s args R_EM) (hw : Wd D tys A s H locs W0) {a : Nat} {fs : List Value} (he : W0[0]? = some (a, .inr (1, fs))) {k idx : Nat} (hlk : k < 19 ∧ Cond.fieldLink R_EM idx R_EM (F_EM k).2.1 (F_EM k).2.2.1 ∈ tb) {v : Value} (hfin : (F_EM k).2.2.2 = false) (hn : narrow (t_EM k) v = v) (hfit : fits (t_EM k) v = true) (hl : k < fs.length) {W1 : va_W} (hW : W0.set 0 (a, .inr (1, fs.set k v)) = W1) (hdg : decode cc pc = .ok (.putfield idx, 3))
    (kk : ∀ (H : Heap) (locs : List Loc), Wd D tys A s H locs W1 → W p l e R s m args below meth c H locs cells slots Q (F0 m (pc + 3) ls rest)) : W p l e R s m args below meth c H locs cells slots Q (F0 m pc ls (v :: .ref a :: rest)) := by
  subst hW
  exact va_put (D := D) C.1.1 C.1.2.1 C.1.2.2.2.2 i_EM t_EM t_EM_ok n_EM C.1.2.2.2.1 hw.1 hw.2.1 hw.2.2.1 hw.2.2.2 0 he rfl k hlk.1 (C.1.2.2.2.2 _ hlk.2) (fun _ h => by rw [o_EM] at h; exact h) hfin (t_EM_ok k hlk.1) hn hfit hl hdg (fun H1 locs1 a b d => kk H1 locs1 ⟨hw.1, a, b, d⟩)
theorem em_putF (C : Cx p m meth c cc nL rt s args R_EM) (hi2 : meth.name = "<init>") (hw : Wd D tys A s H locs W0) {a : Nat} {fs : List Value} (he : W0[0]? = some (a, .inr (1, fs))) {k idx : Nat} (hlk : k < 19 ∧ Cond.fieldLink R_EM idx R_EM (F_EM k).2.1 (F_EM k).2.2.1 ∈ tb) {v : Value} (hfin : (F_EM k).2.2.2 = true) (hn : narrow (t_EM k) v = v) (hfit : fits (t_EM k) v = true) (hl : k < fs.length) {W1 : va_W} (hW : W0.set 0 (a, .inr (1, fs.set k v)) = W1) (hdg : decode cc pc = .ok (.putfield idx, 3))
    (kk : ∀ (H : Heap) (locs : List Loc), Wd D tys A s H locs W1 → W p l e R s m args below meth c H locs cells slots Q (F0 m (pc + 3) ls rest)) : W p l e R s m args below meth c H locs cells slots Q (F0 m pc ls (v :: .ref a :: rest)) := by
  subst hW
  exact va_putF (D := D) C.1.1 C.1.2.1 C.1.2.2.2.2 i_EM t_EM t_EM_ok n_EM C.1.2.2.2.1 hw.1 hw.2.1 hw.2.2.1 hw.2.2.2 0 he rfl k hlk.1 (C.1.2.2.2.2 _ hlk.2) (fun _ h => by rw [o_EM] at h; exact h) hfin hi2 (o_EM k) (t_EM_ok k hlk.1) hn hfit hl hdg (fun H1 locs1 a b d => kk H1 locs1 ⟨hw.1, a, b, d⟩)
/-! arrays: a natural for the index -/
theorem zr_ald (C : Cx p m meth c cc nL rt s args own) (hw : Wd D tys A s H locs W0) (q0 t0 : Nat) {a : Nat} {cA : ClassId} {n i : Nat} {f : Nat → Int32} {v : Int32} (ha : W0[q0]? = some (a, .inl (cA, n, .inl f))) (ht : tys[t0]? = some (cA, .int)) (hi : i < n) (hn : n < 2 ^ 31) (hv : f i = v) (hdg : decode cc pc = .ok (.iaload, 1))
    (kk : W p l e R s m args below meth c H locs cells slots Q (F0 m (pc + 1) ls (.int v :: rest))) : W p l e R s m args below meth c H locs cells slots Q (F0 m pc ls (.int (nI i) :: .ref a :: rest)) :=
  va_iald C.1.1 C.1.2.1 hw.1 hw.2.1 q0 t0 ha ht (vp_in_nI hi hn) hdg (by rw [nI_clamp (Nat.lt_trans hi hn), hv]; exact kk)
theorem zr_ast (C : Cx p m meth c cc nL rt s args own) (hw : Wd D tys A s H locs W0) (q0 t0 : Nat) {a : Nat} {cA : ClassId} {n i : Nat} {f f' : Nat → Int32} {v : Int32} (ha : W0[q0]? = some (a, .inl (cA, n, .inl f))) (ht : tys[t0]? = some (cA, .int)) (hi : i < n) (hn : n < 2 ^ 31) (hf : upd f i v = f') {W1 : va_W} (hW : W0.set q0 (a, .inl (cA, n, .inl f')) = W1) (hdg : decode cc pc = .ok (.iastore, 1))
    (kk : ∀ (H : Heap) (locs : List Loc), Wd D tys A s H locs W1 → W p l e R s m args below meth c H locs cells slots Q (F0 m (pc + 1) ls rest)) : W p l e R s m args below meth c H locs cells slots Q (F0 m pc ls (.int v :: .int (nI i) :: .ref a :: rest)) := by
  subst hW; subst hf
  refine va_iast C.1.1 C.1.2.1 hw.1 hw.2.1 hw.2.2.1 hw.2.2.2 q0 t0 ha ht (vp_in_nI hi hn) hdg (fun H1 locs1 a b d => kk H1 locs1 ⟨hw.1, ?_, ?_, d⟩)
  · rw [nI_clamp (Nat.lt_trans hi hn)] at a; exact a
  · rw [nI_clamp (Nat.lt_trans hi hn)] at b; exact b
theorem zr_zld (C : Cx p m meth c cc nL rt s args own) (hw : Wd D tys A s H locs W0) (q0 t0 : Nat) {a : Nat} {cA : ClassId} {n i : Nat} {f : Nat → Int32} {v : Int32} (ha : W0[q0]? = some (a, .inl (cA, n, .inl f))) (ht : tys[t0]? = some (cA, .boolean)) (hi : i < n) (hn : n < 2 ^ 31) (hv : f i = v) (hdg : decode cc pc = .ok (.baload, 1))
    (kk : W p l e R s m args below meth c H locs cells slots Q (F0 m (pc + 1) ls (.int v :: rest))) : W p l e R s m args below meth c H locs cells slots Q (F0 m pc ls (.int (nI i) :: .ref a :: rest)) :=
  va_zald C.1.1 C.1.2.1 hw.1 hw.2.1 q0 t0 ha ht (vp_in_nI hi hn) hdg (by rw [nI_clamp (Nat.lt_trans hi hn), hv]; exact kk)
theorem zr_zst (C : Cx p m meth c cc nL rt s args own) (hw : Wd D tys A s H locs W0) (q0 t0 : Nat) {a : Nat} {cA : ClassId} {n i : Nat} {f f' : Nat → Int32} {v v' : Int32} (ha : W0[q0]? = some (a, .inl (cA, n, .inl f))) (ht : tys[t0]? = some (cA, .boolean)) (hi : i < n) (hn : n < 2 ^ 31) (hv : vp_nar .boolean v = v') (hf : upd f i v' = f') {W1 : va_W} (hW : W0.set q0 (a, .inl (cA, n, .inl f')) = W1) (hdg : decode cc pc = .ok (.bastore, 1))
    (kk : ∀ (H : Heap) (locs : List Loc), Wd D tys A s H locs W1 → W p l e R s m args below meth c H locs cells slots Q (F0 m (pc + 1) ls rest)) : W p l e R s m args below meth c H locs cells slots Q (F0 m pc ls (.int v :: .int (nI i) :: .ref a :: rest)) := by
  subst hW; subst hf; subst hv
  refine va_zast C.1.1 C.1.2.1 hw.1 hw.2.1 hw.2.2.1 hw.2.2.2 q0 t0 ha ht (vp_in_nI hi hn) hdg (fun H1 locs1 a b d => kk H1 locs1 ⟨hw.1, ?_, ?_, d⟩)
  · rw [nI_clamp (Nat.lt_trans hi hn)] at a; exact a
  · rw [nI_clamp (Nat.lt_trans hi hn)] at b; exact b
/-! the top of the stack under another name -/
theorem zr_top {x y : Int32} (h : x = y) (kk : W p l e R s m args below meth c H locs cells slots Q (F0 m pc ls (.int y :: rest))) : W p l e R s m args below meth c H locs cells slots Q (F0 m pc ls (.int x :: rest)) := h ▸ kk
/-! arithmetic of naturals -/
theorem zr_add (hx : p.tables.exec = Jvm.exec) (hb : c.code = cc) {a b : Nat} (hdg : decode cc pc = .ok (.iadd, 1)) (kk : W p l e R s m args below meth c H locs cells slots Q (F0 m (pc + 1) ls (.int (nI (a + b)) :: rest))) : W p l e R s m args below meth c H locs cells slots Q (F0 m pc ls (.int (nI b) :: .int (nI a) :: rest)) :=
  lv_iadd hx hb hdg (by rw [nI_add]; exact kk)
theorem zr_mul (hx : p.tables.exec = Jvm.exec) (hb : c.code = cc) {a b : Nat} (hdg : decode cc pc = .ok (.imul, 1)) (kk : W p l e R s m args below meth c H locs cells slots Q (F0 m (pc + 1) ls (.int (nI (a * b)) :: rest))) : W p l e R s m args below meth c H locs cells slots Q (F0 m pc ls (.int (nI b) :: .int (nI a) :: rest)) :=
  lv_imul hx hb hdg (by rw [pk_mul]; exact kk)
theorem zr_sub (hx : p.tables.exec = Jvm.exec) (hb : c.code = cc) {a b : Nat} (h : b ≤ a) (hdg : decode cc pc = .ok (.isub, 1)) (kk : W p l e R s m args below meth c H locs cells slots Q (F0 m (pc + 1) ls (.int (nI (a - b)) :: rest))) : W p l e R s m args below meth c H locs cells slots Q (F0 m pc ls (.int (nI b) :: .int (nI a) :: rest)) :=
  lv_isub hx hb hdg (by rw [pk_sub h]; exact kk)
theorem zr_div (hx : p.tables.exec = Jvm.exec) (hb : c.code = cc) {a b : Nat} (ha : a < 2 ^ 31) (h0 : 0 < b) (hb2 : b < 2 ^ 31) (hdg : decode cc pc = .ok (.idiv, 1)) (kk : W p l e R s m args below meth c H locs cells slots Q (F0 m (pc + 1) ls (.int (nI (a / b)) :: rest))) : W p l e R s m args below meth c H locs cells slots Q (F0 m pc ls (.int (nI b) :: .int (nI a) :: rest)) :=
  lv_idiv hx hb hdg (nI_ne0 h0 hb2) (by rw [pk_div ha h0 hb2]; exact kk)
/-! branches over naturals -/
theorem zr_cge (hx : p.tables.exec = Jvm.exec) (hb : c.code = cc) {a b : Nat} {off : Int} {tgt : Nat} (ha : a < 2 ^ 31) (hb2 : b < 2 ^ 31) (hdg : decode cc pc = .ok (.if_icmp .ge off, 3)) (ht : (pc : Int) + off = (tgt : Int))
    (kt : b ≤ a → W p l e R s m args below meth c H locs cells slots Q (F0 m tgt ls rest)) (kf : a < b → W p l e R s m args below meth c H locs cells slots Q (F0 m (pc + 3) ls rest)) : W p l e R s m args below meth c H locs cells slots Q (F0 m pc ls (.int (nI b) :: .int (nI a) :: rest)) :=
  lv_icmp_ge hx hb hdg ht (fun h => kt ((nI_leI hb2 ha).mp h)) (fun h => kf (Nat.lt_of_not_le fun q => h ((nI_leI hb2 ha).mpr q)))
theorem zr_cgt (hx : p.tables.exec = Jvm.exec) (hb : c.code = cc) {a b : Nat} {off : Int} {tgt : Nat} (ha : a < 2 ^ 31) (hb2 : b < 2 ^ 31) (hdg : decode cc pc = .ok (.if_icmp .gt off, 3)) (ht : (pc : Int) + off = (tgt : Int))
    (kt : b < a → W p l e R s m args below meth c H locs cells slots Q (F0 m tgt ls rest)) (kf : a ≤ b → W p l e R s m args below meth c H locs cells slots Q (F0 m (pc + 3) ls rest)) : W p l e R s m args below meth c H locs cells slots Q (F0 m pc ls (.int (nI b) :: .int (nI a) :: rest)) :=
  lv_icmp_gt hx hb hdg ht (fun h => kt ((nI_ltI hb2 ha).mp h)) (fun h => kf (Nat.le_of_not_lt fun q => h ((nI_ltI hb2 ha).mpr q)))
theorem zr_cne (hx : p.tables.exec = Jvm.exec) (hb : c.code = cc) {a b : Nat} {off : Int} {tgt : Nat} (ha : a < 2 ^ 31) (hb2 : b < 2 ^ 31) (hdg : decode cc pc = .ok (.if_icmp .ne off, 3)) (ht : (pc : Int) + off = (tgt : Int))
    (kt : a ≠ b → W p l e R s m args below meth c H locs cells slots Q (F0 m tgt ls rest)) (kf : a = b → W p l e R s m args below meth c H locs cells slots Q (F0 m (pc + 3) ls rest)) : W p l e R s m args below meth c H locs cells slots Q (F0 m pc ls (.int (nI b) :: .int (nI a) :: rest)) :=
  lv_icmp_ne hx hb hdg ht (fun h => kt (fun q => h ((nI_eq ha hb2).mpr q))) (fun h => kf ((nI_eq ha hb2).mp h))
theorem zr_cle0 (hx : p.tables.exec = Jvm.exec) (hb : c.code = cc) {a : Nat} {off : Int} {tgt : Nat} (ha : a < 2 ^ 31) (hdg : decode cc pc = .ok (.ifCond .le off, 3)) (ht : (pc : Int) + off = (tgt : Int))
    (kt : a = 0 → W p l e R s m args below meth c H locs cells slots Q (F0 m tgt ls rest)) (kf : 0 < a → W p l e R s m args below meth c H locs cells slots Q (F0 m (pc + 3) ls rest)) : W p l e R s m args below meth c H locs cells slots Q (F0 m pc ls (.int (nI a) :: rest)) :=
  lv_if_le hx hb hdg ht (fun h => kt (Nat.eq_zero_of_not_pos fun q => nI_nle q ha h)) (fun h => kf (Nat.pos_of_ne_zero fun q => h (by rw [q]; decide)))
theorem zr_beq (hx : p.tables.exec = Jvm.exec) (hb : c.code = cc) {b : Bool} {off : Int} {tgt : Nat} (hdg : decode cc pc = .ok (.ifCond .eq off, 3)) (ht : (pc : Int) + off = (tgt : Int))
    (kt : b = false → W p l e R s m args below meth c H locs cells slots Q (F0 m tgt ls rest)) (kf : b = true → W p l e R s m args below meth c H locs cells slots Q (F0 m (pc + 3) ls rest)) : W p l e R s m args below meth c H locs cells slots Q (F0 m pc ls (.int (bI b) :: rest)) :=
  lv_if_eq hx hb hdg ht (fun h => kt ((bI_eq b).mp h)) (fun h => kf ((bI_ne b).mp h))
theorem zr_bne (hx : p.tables.exec = Jvm.exec) (hb : c.code = cc) {b : Bool} {off : Int} {tgt : Nat} (hdg : decode cc pc = .ok (.ifCond .ne off, 3)) (ht : (pc : Int) + off = (tgt : Int))
    (kt : b = true → W p l e R s m args below meth c H locs cells slots Q (F0 m tgt ls rest)) (kf : b = false → W p l e R s m args below meth c H locs cells slots Q (F0 m (pc + 3) ls rest)) : W p l e R s m args below meth c H locs cells slots Q (F0 m pc ls (.int (bI b) :: rest)) :=
  lv_if_ne hx hb hdg ht (fun h => kt ((bI_ne b).mp h)) (fun h => kf ((bI_eq b).mp h))
/-! returns -/
theorem zr_iret {S : Type} {post : Int32 → S → Prop} {W1 : S → va_W} {v : Int32} (C : Cx p m meth c cc nL (some .int) s args own) (u : S) (hp : post v u) (hw : Wd D tys A s H locs (W1 u)) (hdg : decode cc pc = .ok (.ireturn, 1)) : W p l e R s m args below meth c H locs cells slots (MQ below (va_Qi post (cB D tys A W1) A) args s cells slots A) (F0 m pc ls [.int v]) :=
  W.iret C.1.1 C.1.2.1 C.2.1 (fun t ht hW => ⟨⟨v, u, rfl, hp, by rw [ht]; exact hw.2.1, va_K.moved hW.alike hw.1, hw.2.2.1⟩, hw.2.2.2.F ht⟩) hw.2.2.2.2.2 hdg C.2.2
theorem zr_zret {S : Type} {post : Int32 → S → Prop} {W1 : S → va_W} {v : Int32} (C : Cx p m meth c cc nL (some .boolean) s args own) (u : S) (hp : post v u) (hn : narrow .boolean (.int v) = .int v) (hw : Wd D tys A s H locs (W1 u)) (hdg : decode cc pc = .ok (.ireturn, 1)) : W p l e R s m args below meth c H locs cells slots (MQ below (va_Qi post (cB D tys A W1) A) args s cells slots A) (F0 m pc ls [.int v]) :=
  W.zret C.1.1 C.1.2.1 C.2.1 hn (fun t ht hW => ⟨⟨v, u, rfl, hp, by rw [ht]; exact hw.2.1, va_K.moved hW.alike hw.1, hw.2.2.1⟩, hw.2.2.2.F ht⟩) hw.2.2.2.2.2 hdg C.2.2
theorem zr_vret {S : Type} {post : S → Prop} {W1 : S → va_W} (C : Cx p m meth c cc nL none s args own) (u : S) (hp : post u) (hw : Wd D tys A s H locs (W1 u)) (hdg : decode cc pc = .ok (.return_, 1)) : W p l e R s m args below meth c H locs cells slots (MQ below (va_Qv post (cB D tys A W1) A) args s cells slots A) (F0 m pc ls []) :=
  W.vret C.1.1 C.1.2.1 C.2.1 (fun t ht hW => ⟨⟨u, rfl, hp, by rw [ht]; exact hw.2.1, va_K.moved hW.alike hw.1, hw.2.2.1⟩, hw.2.2.2.F ht⟩) hw.2.2.2.2.2 hdg C.2.2
/-! calls of an object's method (invokevirtual); the callee's world Wc lies at the places isC of the caller's, the rest at isR -/
theorem zr_get {W0 Wc : va_W} {isC : List Nat} (hC : isC.map (fun i => W0[i]?) = Wc.map some) : isC.filterMap (fun i => W0[i]?) = Wc := by
  have h : (isC.map (fun i => W0[i]?)).filterMap id = (Wc.map some).filterMap id := by rw [hC]
  rw [List.filterMap_map, List.filterMap_map] at h
  simpa using h
theorem zr_range (W0 : va_W) : (List.range W0.length).map (fun i => W0[i]?) = W0.map some := by
  apply List.ext_getElem?
  intro i
  by_cases h : i < W0.length
  · simp [List.getElem?_range h, h]
  · simp [h]
theorem zr_calliF {S : Type} {post : Int32 → S → Prop} {W1 : S → va_W} {y : MethodName} {b : ByteArray} {n : Nat} {rt' : Option FieldType} {rm : Room} {a : Nat} {As st0 : List Value} {Wc wr : va_W} (C : Cx p m meth c cc nL rt s args own) (hM : MetI l y b n rt' rm D tys (.ref a :: As) Wc H.size post W1) {idx ci N : Nat} {T : u_T} {fs : List Value} (hg : GoodIn tb (wsV own idx y.cls y (wd y b n rt')))
    (hd : y.cls ≠ "java/lang/invoke/MethodHandle" ∧ y.cls ≠ "java/lang/invoke/VarHandle" ∧ (parseMethodDescriptor y.desc).map (fun d => d.parameters.length) = some As.length) (hrm : rm.frames + 1 ≤ R.frames ∧ 8 + (n + 11) + rm.locals ≤ R.locals)
    (isC isR : List Nat) (hC : isC.map (fun i => W0[i]?) = Wc.map some) (hR : isR.map (fun i => W0[i]?) = wr.map some) (hnC : va_nd isC = true) (hn : va_nd isR = true) (hdis : ∀ i ∈ isR, i ∉ isC) (hrec : Wc[0]? = some (a, .inr (ci, fs))) (hcl : classes[ci]? = some (y.cls, T, N)) (hw : Wd D tys A s H locs W0) (hA : ∀ q : Nat, s.heap.size ≤ q → A q) (hls : ls.size = nL) (hst : st0 = As.reverse ++ .ref a :: rest) (hro : (rest.map fun v => v.category).sum ≤ 8) (hdg : decode cc pc = .ok (.invokevirtual idx, 3)) (hf : cells + rm.cells ≤ R.cells ∧ slots + rm.slots ≤ R.slots)
    (kk : ∀ (r : Int32) (u : S) (H : Heap) (locs : List Loc), post r u → Wd D tys A s H locs (wr ++ W1 u) → W p l e R s m args below meth c H locs (cells + rm.cells) (slots + rm.slots) Q (F0 m (pc + 3) ls (.int r :: rest))) : W p l e R s m args below meth c H locs cells slots Q (F0 m pc ls st0) := by
  subst hst
  obtain ⟨hK, hP, hD, hS⟩ := hw
  have hPc : va_P D classes Wc H := hP.sub isC (zr_get hC)
  have hDc := hD.sub isC hnC hC
  have hFc := va_free hD hS hA isC hC
  refine va_calli (va_runV C.1 hM (cwV As.length C.1.2.2.2.2 hg rfl rfl rfl ⟨rfl, hd⟩ hrm) ⟨cPre_blind, va_recv hK hPc hcl hrec, fun U hU hW => ⟨rfl, by rw [hU], by rw [hU]; exact hPc, va_K.moved hW.alike hK, hDc.weaken (fun _ _ _ _ => trivial)⟩⟩ rfl rfl hls rfl (lv_room hro) hdg hf) hS (fun q _ h => hFc q h) hFc (fun r u t H1 locs1 ht hvm hpo hB hz1 hk1 hS1 => ?_)
  obtain ⟨hP1, hK1, hD1⟩ := hB
  rw [ht] at hP1
  obtain ⟨hP2, hD2⟩ := va_join hP hD isC isR hC hR hn hdis hk1 hFc hP1 hD1
  exact kk r u H1 locs1 hpo ⟨hK, hP2, hD2, hS1⟩
theorem zr_callvF {S : Type} {post : S → Prop} {W1 : S → va_W} {y : MethodName} {b : ByteArray} {n : Nat} {rm : Room} {a : Nat} {As st0 : List Value} {Wc wr : va_W} (C : Cx p m meth c cc nL rt s args own) (hM : MetV l y b n rm D tys (.ref a :: As) Wc H.size post W1) {idx ci N : Nat} {T : u_T} {fs : List Value} (hg : GoodIn tb (wsV own idx y.cls y (wd y b n none)))
    (hd : y.cls ≠ "java/lang/invoke/MethodHandle" ∧ y.cls ≠ "java/lang/invoke/VarHandle" ∧ (parseMethodDescriptor y.desc).map (fun d => d.parameters.length) = some As.length) (hrm : rm.frames + 1 ≤ R.frames ∧ 8 + (n + 11) + rm.locals ≤ R.locals)
    (isC isR : List Nat) (hC : isC.map (fun i => W0[i]?) = Wc.map some) (hR : isR.map (fun i => W0[i]?) = wr.map some) (hnC : va_nd isC = true) (hn : va_nd isR = true) (hdis : ∀ i ∈ isR, i ∉ isC) (hrec : Wc[0]? = some (a, .inr (ci, fs))) (hcl : classes[ci]? = some (y.cls, T, N)) (hw : Wd D tys A s H locs W0) (hA : ∀ q : Nat, s.heap.size ≤ q → A q) (hls : ls.size = nL) (hst : st0 = As.reverse ++ .ref a :: rest) (hro : (rest.map fun v => v.category).sum ≤ 8) (hdg : decode cc pc = .ok (.invokevirtual idx, 3)) (hf : cells + rm.cells ≤ R.cells ∧ slots + rm.slots ≤ R.slots)
    (kk : ∀ (u : S) (H : Heap) (locs : List Loc), post u → Wd D tys A s H locs (wr ++ W1 u) → W p l e R s m args below meth c H locs (cells + rm.cells) (slots + rm.slots) Q (F0 m (pc + 3) ls rest)) : W p l e R s m args below meth c H locs cells slots Q (F0 m pc ls st0) := by
  subst hst
  obtain ⟨hK, hP, hD, hS⟩ := hw
  have hPc : va_P D classes Wc H := hP.sub isC (zr_get hC)
  have hDc := hD.sub isC hnC hC
  have hFc := va_free hD hS hA isC hC
  refine va_callv (va_runV C.1 hM (cwV As.length C.1.2.2.2.2 hg rfl rfl rfl ⟨rfl, hd⟩ hrm) ⟨cPre_blind, va_recv hK hPc hcl hrec, fun U hU hW => ⟨rfl, by rw [hU], by rw [hU]; exact hPc, va_K.moved hW.alike hK, hDc.weaken (fun _ _ _ _ => trivial)⟩⟩ rfl rfl hls rfl (lv_room hro) hdg hf) hS (fun q _ h => hFc q h) hFc (fun u t H1 locs1 ht hvm hpo hB hz1 hk1 hS1 => ?_)
  obtain ⟨hP1, hK1, hD1⟩ := hB
  rw [ht] at hP1
  obtain ⟨hP2, hD2⟩ := va_join hP hD isC isR hC hR hn hdis hk1 hFc hP1 hD1
  exact kk u H1 locs1 hpo ⟨hK, hP2, hD2, hS1⟩
/-! the same where the callee's world is the caller's whole world -/
theorem zr_calli {S : Type} {post : Int32 → S → Prop} {W1 : S → va_W} {y : MethodName} {b : ByteArray} {n : Nat} {rt' : Option FieldType} {rm : Room} {a : Nat} {As st0 : List Value} (C : Cx p m meth c cc nL rt s args own) (hA : ∀ q : Nat, s.heap.size ≤ q → A q) (hw : Wd D tys A s H locs W0) (hls : ls.size = nL) {idx ci N : Nat} {T : u_T} {fs : List Value} (hg : GoodIn tb (wsV own idx y.cls y (wd y b n rt')))
    (hM : MetI l y b n rt' rm D tys (.ref a :: As) W0 H.size post W1)
    (hd : y.cls ≠ "java/lang/invoke/MethodHandle" ∧ y.cls ≠ "java/lang/invoke/VarHandle" ∧ (parseMethodDescriptor y.desc).map (fun d => d.parameters.length) = some As.length) (hrm : rm.frames + 1 ≤ R.frames ∧ 8 + (n + 11) + rm.locals ≤ R.locals)
    (hrec : W0[0]? = some (a, .inr (ci, fs))) (hcl : classes[ci]? = some (y.cls, T, N)) (hst : st0 = As.reverse ++ .ref a :: rest) (hro : (rest.map fun v => v.category).sum ≤ 8) (hdg : decode cc pc = .ok (.invokevirtual idx, 3)) (hf : cells + rm.cells ≤ R.cells ∧ slots + rm.slots ≤ R.slots)
    (kk : ∀ (r : Int32) (u : S) (H : Heap) (locs : List Loc), post r u → Wd D tys A s H locs (W1 u) → W p l e R s m args below meth c H locs (cells + rm.cells) (slots + rm.slots) Q (F0 m (pc + 3) ls (.int r :: rest))) : W p l e R s m args below meth c H locs cells slots Q (F0 m pc ls st0) := by
  subst hst
  obtain ⟨hK, hP, hD, hS⟩ := hw
  have hFc := va_free hD hS hA (List.range W0.length) (zr_range W0)
  refine va_calli (va_runV C.1 hM (cwV As.length C.1.2.2.2.2 hg rfl rfl rfl ⟨rfl, hd⟩ hrm) ⟨cPre_blind, va_recv hK hP hcl hrec, fun U hU hW => ⟨rfl, by rw [hU], by rw [hU]; exact hP, va_K.moved hW.alike hK, hD.weaken (fun _ _ _ _ => trivial)⟩⟩ rfl rfl hls rfl (lv_room hro) hdg hf) hS (fun q _ h => hFc q h) hFc (fun r u t H1 locs1 ht hvm hpo hB hz1 hk1 hS1 => ?_)
  obtain ⟨hP1, hK1, hD1⟩ := hB
  rw [ht] at hP1
  exact kk r u H1 locs1 hpo ⟨hK, hP1, hD1.weaken (fun _ _ _ h => hFc _ h), hS1⟩
theorem zr_callv {S : Type} {post : S → Prop} {W1 : S → va_W} {y : MethodName} {b : ByteArray} {n : Nat} {rm : Room} {a : Nat} {As st0 : List Value} (C : Cx p m meth c cc nL rt s args own) (hA : ∀ q : Nat, s.heap.size ≤ q → A q) (hw : Wd D tys A s H locs W0) (hls : ls.size = nL) {idx ci N : Nat} {T : u_T} {fs : List Value} (hg : GoodIn tb (wsV own idx y.cls y (wd y b n none)))
    (hM : MetV l y b n rm D tys (.ref a :: As) W0 H.size post W1)
    (hd : y.cls ≠ "java/lang/invoke/MethodHandle" ∧ y.cls ≠ "java/lang/invoke/VarHandle" ∧ (parseMethodDescriptor y.desc).map (fun d => d.parameters.length) = some As.length) (hrm : rm.frames + 1 ≤ R.frames ∧ 8 + (n + 11) + rm.locals ≤ R.locals)
    (hrec : W0[0]? = some (a, .inr (ci, fs))) (hcl : classes[ci]? = some (y.cls, T, N)) (hst : st0 = As.reverse ++ .ref a :: rest) (hro : (rest.map fun v => v.category).sum ≤ 8) (hdg : decode cc pc = .ok (.invokevirtual idx, 3)) (hf : cells + rm.cells ≤ R.cells ∧ slots + rm.slots ≤ R.slots)
    (kk : ∀ (u : S) (H : Heap) (locs : List Loc), post u → Wd D tys A s H locs (W1 u) → W p l e R s m args below meth c H locs (cells + rm.cells) (slots + rm.slots) Q (F0 m (pc + 3) ls rest)) : W p l e R s m args below meth c H locs cells slots Q (F0 m pc ls st0) := by
  subst hst
  obtain ⟨hK, hP, hD, hS⟩ := hw
  have hFc := va_free hD hS hA (List.range W0.length) (zr_range W0)
  refine va_callv (va_runV C.1 hM (cwV As.length C.1.2.2.2.2 hg rfl rfl rfl ⟨rfl, hd⟩ hrm) ⟨cPre_blind, va_recv hK hP hcl hrec, fun U hU hW => ⟨rfl, by rw [hU], by rw [hU]; exact hP, va_K.moved hW.alike hK, hD.weaken (fun _ _ _ _ => trivial)⟩⟩ rfl rfl hls rfl (lv_room hro) hdg hf) hS (fun q _ h => hFc q h) hFc (fun u t H1 locs1 ht hvm hpo hB hz1 hk1 hS1 => ?_)
  obtain ⟨hP1, hK1, hD1⟩ := hB
  rw [ht] at hP1
  exact kk u H1 locs1 hpo ⟨hK, hP1, hD1.weaken (fun _ _ _ h => hFc _ h), hS1⟩
/-! Math.min, Math.max, called from ExternalSorter -/
theorem zr_min (C : Cx p m meth c cc nL rt s args R_ES) (hls : ls.size = nL) (hfr : 1 ≤ R.frames) (hlo : (rest.map fun v => v.category).sum + 13 ≤ R.locals) (hc : cells ≤ R.cells) (hs : slots ≤ R.slots) {x y : Int32} (hdg : decode cc pc = .ok (.invokestatic 7, 3))
    (kk : W p l e R s m args below meth c H locs cells slots Q (F0 m (pc + 3) ls (.int (if y < x then y else x) :: rest))) : W p l e R s m args below meth c H locs cells slots Q (F0 m pc ls (.int y :: .int x :: rest)) :=
  va_mmin C.1.1 C.1.2.1 (by rw [C.1.2.2.1, hls]) C.1.2.2.2.1 (C.1.2.2.2.2 (.methodLink R_ES 7 Lib.Math.min.name) (by decide +kernel)) (C.1.2.2.2.2 (.static Lib.Math.min.name) (by decide +kernel)) (C.1.2.2.2.2 (.initialized "java/lang/Math") (by decide +kernel)) (C.1.2.2.2.2 (.code Lib.Math.min.name Lib.Math.min.code 2 (some .int)) (by decide +kernel)) hfr hlo hc hs hdg kk
theorem zr_max (C : Cx p m meth c cc nL rt s args R_ES) (hls : ls.size = nL) (hfr : 1 ≤ R.frames) (hlo : (rest.map fun v => v.category).sum + 13 ≤ R.locals) (hc : cells ≤ R.cells) (hs : slots ≤ R.slots) {x y : Int32} (hdg : decode cc pc = .ok (.invokestatic 13, 3))
    (kk : W p l e R s m args below meth c H locs cells slots Q (F0 m (pc + 3) ls (.int (if x < y then y else x) :: rest))) : W p l e R s m args below meth c H locs cells slots Q (F0 m pc ls (.int y :: .int x :: rest)) :=
  va_mmax C.1.1 C.1.2.1 (by rw [C.1.2.2.1, hls]) C.1.2.2.2.1 (C.1.2.2.2.2 (.methodLink R_ES 13 Lib.Math.max.name) (by decide +kernel)) (C.1.2.2.2.2 (.static Lib.Math.max.name) (by decide +kernel)) (C.1.2.2.2.2 (.initialized "java/lang/Math") (by decide +kernel)) (C.1.2.2.2.2 (.code Lib.Math.max.name Lib.Math.max.code 2 (some .int)) (by decide +kernel)) hfr hlo hc hs hdg kk
end ZR
abbrev rmF (f l : Nat) : Room := { frames := f, cells := 0, slots := 0, locals := l }
section ZR0
variable {p : Program} {l : Launch} {e : Env} {R : Room} {s : State} {m : MethodId} {args : Array Value} {below : List Frame} {meth : Method} {c : Code} {H : Heap} {locs : List Loc} {cells slots : Nat} {Q : State → Prop}
variable {cc : ByteArray} {pc nL : Nat} {rt : Option FieldType} {ls : Array Slot} {rest : List Value} {D : va_G} {A : Nat → Prop} {tys : List (ClassId × FieldType)} {W0 : va_W} {own : String}
/-! calls of methods that make nothing -/
theorem zr_calli0 {S : Type} {post : Int32 → S → Prop} {W1 : S → va_W} {y : MethodName} {b : ByteArray} {n : Nat} {rt' : Option FieldType} {rm : Room} {a : Nat} {As st0 : List Value} (C : Cx p m meth c cc nL rt s args own) (hA : ∀ q : Nat, s.heap.size ≤ q → A q) (hw : Wd D tys A s H locs W0) (hls : ls.size = nL) {idx ci N : Nat} {T : u_T} {fs : List Value} (hg : GoodIn tb (wsV own idx y.cls y (wd y b n rt')))
    (hM : MetI l y b n rt' rm D tys (.ref a :: As) W0 H.size post W1)
    (hd : y.cls ≠ "java/lang/invoke/MethodHandle" ∧ y.cls ≠ "java/lang/invoke/VarHandle" ∧ (parseMethodDescriptor y.desc).map (fun d => d.parameters.length) = some As.length) (hrm : rm.frames + 1 ≤ R.frames ∧ 8 + (n + 11) + rm.locals ≤ R.locals)
    (hrec : W0[0]? = some (a, .inr (ci, fs))) (hcl : classes[ci]? = some (y.cls, T, N)) (hst : st0 = As.reverse ++ .ref a :: rest) (hro : (rest.map fun v => v.category).sum ≤ 8) (hdg : decode cc pc = .ok (.invokevirtual idx, 3)) (h0 : rm.cells = 0 ∧ rm.slots = 0) (hf : cells ≤ R.cells ∧ slots ≤ R.slots)
    (kk : ∀ (r : Int32) (u : S) (H : Heap) (locs : List Loc), post r u → Wd D tys A s H locs (W1 u) → W p l e R s m args below meth c H locs cells slots Q (F0 m (pc + 3) ls (.int r :: rest))) : W p l e R s m args below meth c H locs cells slots Q (F0 m pc ls st0) :=
  zr_calli C hA hw hls hg hM hd hrm hrec hcl hst hro hdg (by rw [h0.1, h0.2]; exact hf) (fun r u H locs h1 h2 => by rw [h0.1, h0.2]; exact kk r u H locs h1 h2)
theorem zr_callv0 {S : Type} {post : S → Prop} {W1 : S → va_W} {y : MethodName} {b : ByteArray} {n : Nat} {rm : Room} {a : Nat} {As st0 : List Value} (C : Cx p m meth c cc nL rt s args own) (hA : ∀ q : Nat, s.heap.size ≤ q → A q) (hw : Wd D tys A s H locs W0) (hls : ls.size = nL) {idx ci N : Nat} {T : u_T} {fs : List Value} (hg : GoodIn tb (wsV own idx y.cls y (wd y b n none)))
    (hM : MetV l y b n rm D tys (.ref a :: As) W0 H.size post W1)
    (hd : y.cls ≠ "java/lang/invoke/MethodHandle" ∧ y.cls ≠ "java/lang/invoke/VarHandle" ∧ (parseMethodDescriptor y.desc).map (fun d => d.parameters.length) = some As.length) (hrm : rm.frames + 1 ≤ R.frames ∧ 8 + (n + 11) + rm.locals ≤ R.locals)
    (hrec : W0[0]? = some (a, .inr (ci, fs))) (hcl : classes[ci]? = some (y.cls, T, N)) (hst : st0 = As.reverse ++ .ref a :: rest) (hro : (rest.map fun v => v.category).sum ≤ 8) (hdg : decode cc pc = .ok (.invokevirtual idx, 3)) (h0 : rm.cells = 0 ∧ rm.slots = 0) (hf : cells ≤ R.cells ∧ slots ≤ R.slots)
    (kk : ∀ (u : S) (H : Heap) (locs : List Loc), post u → Wd D tys A s H locs (W1 u) → W p l e R s m args below meth c H locs cells slots Q (F0 m (pc + 3) ls rest)) : W p l e R s m args below meth c H locs cells slots Q (F0 m pc ls st0) :=
  zr_callv C hA hw hls hg hM hd hrm hrec hcl hst hro hdg (by rw [h0.1, h0.2]; exact hf) (fun u H locs h1 h2 => by rw [h0.1, h0.2]; exact kk u H locs h1 h2)
end ZR0
end
section
/-! ===== heapsort, as a function on places (no program in sight) ===== -/
def swp {α : Type} (f : Nat → α) (i j : Nat) : Nat → α := fun k => if k = j then f i else if k = i then f j else f k
theorem swp_upd (f : Nat → Int32) (i j : Nat) : upd (upd f i (f j)) j (f i) = swp f i j := rfl
theorem swp_comp {α : Type} (g : Nat → α) (a : Nat → Nat) (i j : Nat) : swp (fun k => g (a k)) i j = fun k => g (swp a i j k) := by
  funext k; simp only [swp]; split
  · rfl
  · split <;> rfl
theorem swp_i {α : Type} (f : Nat → α) (i j : Nat) : swp f i j i = f j := by
  by_cases h : i = j
  · subst h; simp [swp]
  · simp [swp, h]
theorem swp_j {α : Type} (f : Nat → α) (i j : Nat) : swp f i j j = f i := by simp [swp]
theorem swp_o {α : Type} (f : Nat → α) {i j k : Nat} (h1 : k ≠ i) (h2 : k ≠ j) : swp f i j k = f k := by simp [swp, h1, h2]
/-- whether the pair at one place comes before that at another one -/
def ltB (fk fp : Nat → Int32) (i j : Nat) : Bool := if fk i = fk j then decide (fp i < fp j) else decide (fk i < fk j)
/-- the greater child -/
def hs_ch (lt : Nat → Nat → Bool) (a : Nat → Nat) (i n : Nat) : Nat := if 2 * i + 1 + 1 < n ∧ lt (a (2 * i + 1)) (a (2 * i + 1 + 1)) = true then 2 * i + 1 + 1 else 2 * i + 1
def snk (lt : Nat → Nat → Bool) : Nat → (Nat → Nat) → Nat → Nat → (Nat → Nat)
  | 0, a, _, _ => a
  | f + 1, a, i, n => if 2 * i + 1 < n then (if lt (a i) (a (hs_ch lt a i n)) = true then snk lt f (swp a i (hs_ch lt a i n)) (hs_ch lt a i n) n else a) else a
def hs1 (lt : Nat → Nat → Bool) (h : Nat) : Nat → (Nat → Nat) → (Nat → Nat)
  | 0, a => a
  | k + 1, a => hs1 lt h k (snk lt h a k h)
def hs2 (lt : Nat → Nat → Bool) : Nat → (Nat → Nat) → (Nat → Nat)
  | 0, a => a
  | n + 1, a => hs2 lt n (snk lt (n + 1) (swp a 0 (n + 1)) 0 (n + 1))
def hsort (lt : Nat → Nat → Bool) (h : Nat) : Nat → Nat := hs2 lt (h - 1) (hs1 lt h (h / 2) (fun k => k))
/-- a permutation of the first n numbers -/
def PermN (n : Nat) (a : Nat → Nat) : Prop := (∀ i, i < n → a i < n) ∧ (∀ i j, i < n → j < n → a i = a j → i = j) ∧ (∀ k, k < n → ∃ i, i < n ∧ a i = k)
theorem PermN.idn (n : Nat) : PermN n (fun k => k) := ⟨fun _ h => h, fun _ _ _ _ h => h, fun k h => ⟨k, h, rfl⟩⟩
theorem PermN.sw {n : Nat} {a : Nat → Nat} (h : PermN n a) {i j : Nat} (hi : i < n) (hj : j < n) : PermN n (swp a i j) := by
  have key : ∀ k, k < n → ∃ k', k' < n ∧ swp a i j k = a k' ∧ (k = i → k' = j) ∧ (k = j → k' = i) ∧ (k ≠ i → k ≠ j → k' = k) := by
    intro k hk
    by_cases h1 : k = j
    · subst h1; exact ⟨i, hi, swp_j a i k, fun h => h.symm, fun _ => rfl, fun _ h => absurd rfl h⟩
    · by_cases h2 : k = i
      · subst h2; exact ⟨j, hj, swp_i a k j, fun _ => rfl, fun h => absurd h h1, fun h => absurd rfl h⟩
      · exact ⟨k, hk, swp_o a h2 h1, fun h => absurd h h2, fun h => absurd h h1, fun _ _ => rfl⟩
  refine ⟨fun k hk => ?_, fun k1 k2 h1 h2 e => ?_, fun k hk => ?_⟩
  · obtain ⟨k', h1, h2, -⟩ := key k hk
    rw [h2]; exact h.1 k' h1
  · obtain ⟨x1, a1, b1, c1, d1, e1⟩ := key k1 h1
    obtain ⟨x2, a2, b2, c2, d2, e2⟩ := key k2 h2
    rw [b1, b2] at e
    have hx := h.2.1 x1 x2 a1 a2 e
    by_cases p1 : k1 = i
    · have := c1 p1
      by_cases p2 : k2 = i
      · omega
      · by_cases p3 : k2 = j
        · have := d2 p3; omega
        · have := e2 p2 p3; omega
    · by_cases p4 : k1 = j
      · have := d1 p4
        by_cases p2 : k2 = j
        · omega
        · by_cases p3 : k2 = i
          · have := c2 p3; omega
          · have := e2 p3 p2; omega
      · have := e1 p1 p4
        by_cases p2 : k2 = j
        · have := d2 p2; omega
        · by_cases p3 : k2 = i
          · have := c2 p3; omega
          · have := e2 p3 p2; omega
  · obtain ⟨y, hy, e⟩ := h.2.2 k hk
    by_cases h1 : y = j
    · exact ⟨i, hi, by rw [swp_i, ← h1]; exact e⟩
    · by_cases h2 : y = i
      · exact ⟨j, hj, by rw [swp_j, ← h2]; exact e⟩
      · exact ⟨y, hy, by rw [swp_o a h2 h1]; exact e⟩
/-- the first n entries are rearranged among themselves, the others stay -/
def hsRear (n : Nat) (a b : Nat → Nat) : Prop := (∀ k, n ≤ k → b k = a k) ∧ (∀ k, k < n → ∃ y, y < n ∧ b k = a y)
theorem hsRear.rf (n : Nat) (a : Nat → Nat) : hsRear n a a := ⟨fun _ _ => rfl, fun k h => ⟨k, h, rfl⟩⟩
theorem hsRear.tr {n : Nat} {a b d : Nat → Nat} (h1 : hsRear n a b) (h2 : hsRear n b d) : hsRear n a d :=
  ⟨fun k h => (h2.1 k h).trans (h1.1 k h), fun k h => by
    obtain ⟨y, hy, e⟩ := h2.2 k h
    obtain ⟨z, hz, e2⟩ := h1.2 y hy
    exact ⟨z, hz, e.trans e2⟩⟩
theorem hsRear.sw {n : Nat} (a : Nat → Nat) {i j : Nat} (hi : i < n) (hj : j < n) : hsRear n a (swp a i j) :=
  ⟨fun k h => swp_o a (by omega) (by omega), fun k h => by
    by_cases h1 : k = j
    · exact ⟨i, hi, by rw [h1, swp_j]⟩
    · by_cases h2 : k = i
      · exact ⟨j, hj, by rw [h2, swp_i]⟩
      · exact ⟨k, h, swp_o a h2 h1⟩⟩
theorem hs_ch_lt (lt : Nat → Nat → Bool) (a : Nat → Nat) {i n : Nat} (h : 2 * i + 1 < n) : hs_ch lt a i n < n ∧ i < hs_ch lt a i n ∧ (hs_ch lt a i n = 2 * i + 1 ∨ hs_ch lt a i n = 2 * i + 2) := by
  unfold hs_ch
  split
  · rename_i q; exact ⟨q.1, by omega, by omega⟩
  · exact ⟨h, by omega, by omega⟩
theorem snk_rear (lt : Nat → Nat → Bool) : ∀ (f : Nat) (a : Nat → Nat) (i n : Nat), i < n → hsRear n a (snk lt f a i n) := by
  intro f
  induction f with
  | zero => intro a i n _; exact hsRear.rf n a
  | succ f ih =>
    intro a i n hi
    simp only [snk]
    split
    · rename_i h
      have hc := hs_ch_lt lt a h
      split
      · exact (hsRear.sw a hi hc.1).tr (ih _ _ _ hc.1)
      · exact hsRear.rf n a
    · exact hsRear.rf n a
theorem snk_perm (lt : Nat → Nat → Bool) {N : Nat} : ∀ (f : Nat) (a : Nat → Nat) (i n : Nat), i < n → n ≤ N → PermN N a → PermN N (snk lt f a i n) := by
  intro f
  induction f with
  | zero => intro a i n _ _ h; exact h
  | succ f ih =>
    intro a i n hi hn h
    simp only [snk]
    split
    · rename_i h1
      have hc := hs_ch_lt lt a h1
      split
      · exact ih _ _ _ hc.1 hn (h.sw (by omega) (by omega))
      · exact h
    · exact h
theorem hs1_perm (lt : Nat → Nat → Bool) {N : Nat} : ∀ (k : Nat) (a : Nat → Nat), k ≤ N → PermN N a → PermN N (hs1 lt N k a) := by
  intro k
  induction k with
  | zero => intro a _ h; exact h
  | succ k ih => intro a hk h; exact ih _ (by omega) (snk_perm lt _ _ _ _ (by omega) (Nat.le_refl _) h)
theorem hs2_perm (lt : Nat → Nat → Bool) {N : Nat} : ∀ (k : Nat) (a : Nat → Nat), k < N → PermN N a → PermN N (hs2 lt k a) := by
  intro k
  induction k with
  | zero => intro a _ h; exact h
  | succ k ih => intro a hk h; exact ih _ (by omega) (snk_perm lt _ _ _ _ (by omega) (by omega) (h.sw (by omega) (by omega)))
theorem hsort_perm (lt : Nat → Nat → Bool) (N : Nat) : PermN N (hsort lt N) := by
  unfold hsort
  have h1 : PermN N (hs1 lt N (N / 2) (fun k => k)) := hs1_perm lt _ _ (by omega) (PermN.idn N)
  by_cases h : N = 0
  · subst h; exact h1
  · exact hs2_perm lt _ _ (by omega) h1
/-! the order is that of a weight g -/
def hsHeap (g : Nat → Int) (a : Nat → Nat) (lo n : Nat) : Prop := ∀ j d, lo ≤ j → d < n → (d = 2 * j + 1 ∨ d = 2 * j + 2) → g (a d) ≤ g (a j)
theorem hs_ch_max {lt : Nat → Nat → Bool} {g : Nat → Int} {N : Nat} (hlt : ∀ x y, x < N → y < N → (lt x y = true ↔ g x < g y)) {a : Nat → Nat} {i n : Nat} (hn : ∀ k, k < n → a k < N) (h : 2 * i + 1 < n) :
    ∀ d, d < n → (d = 2 * i + 1 ∨ d = 2 * i + 2) → g (a d) ≤ g (a (hs_ch lt a i n)) := by
  intro d hd hc
  unfold hs_ch
  split
  · rename_i q
    have := (hlt _ _ (hn _ h) (hn _ q.1)).mp q.2
    rcases hc with rfl | rfl
    · exact Int.le_of_lt this
    · exact Int.le_refl _
  · rename_i q
    rcases hc with rfl | rfl
    · exact Int.le_refl _
    · by_cases hq : lt (a (2 * i + 1)) (a (2 * i + 1 + 1)) = true
      · exact absurd ⟨hd, hq⟩ q
      · have h3 := fun z => hq ((hlt _ _ (hn _ h) (hn _ hd)).mpr z)
        exact Int.not_lt.mp h3
theorem snk_heap {lt : Nat → Nat → Bool} {g : Nat → Int} {N : Nat} (hlt : ∀ x y, x < N → y < N → (lt x y = true ↔ g x < g y)) : ∀ (f : Nat) (a : Nat → Nat) (i n lo : Nat), (∀ k, k < n → a k < N) → lo ≤ i → i < n → n ≤ i + f →
    (∀ j d, lo ≤ j → j ≠ i → d < n → (d = 2 * j + 1 ∨ d = 2 * j + 2) → g (a d) ≤ g (a j)) → (∀ j d, lo ≤ j → (i = 2 * j + 1 ∨ i = 2 * j + 2) → d < n → (d = 2 * i + 1 ∨ d = 2 * i + 2) → g (a d) ≤ g (a j)) → hsHeap g (snk lt f a i n) lo n := by
  intro f
  induction f with
  | zero => intro a i n lo _ _ h1 h2; omega
  | succ f ih =>
    intro a i n lo hn hlo hi hf H1 H2
    simp only [snk]
    split
    · rename_i h
      obtain ⟨c1, c2, c3⟩ := hs_ch_lt lt a h
      have cm := hs_ch_max hlt hn h
      generalize hs_ch lt a i n = c at c1 c2 c3 cm ⊢
      split
      · rename_i hl
        have hgl := (hlt _ _ (hn _ hi) (hn _ c1)).mp hl
        refine ih (swp a i c) c n lo ?_ (by omega) c1 (by omega) ?_ ?_
        · intro k hk
          by_cases k1 : k = c
          · rw [k1, swp_j]; exact hn _ hi
          · by_cases k2 : k = i
            · rw [k2, swp_i]; exact hn _ c1
            · rw [swp_o a k2 k1]; exact hn _ hk
        · intro j d hj hjc hd hcd
          by_cases j1 : j = i
          · subst j1
            rw [swp_i]
            by_cases d1 : d = c
            · subst d1; rw [swp_j]; exact Int.le_of_lt hgl
            · rw [swp_o a (by omega) d1]; exact cm d hd hcd
          · rw [swp_o a j1 hjc]
            by_cases d1 : d = c
            · exfalso; omega
            · by_cases d2 : d = i
              · subst d2; rw [swp_i]; exact H2 j c hj hcd c1 c3
              · rw [swp_o a d2 d1]; exact H1 j d hj j1 hd hcd
        · intro j d hj hjc hd hcd
          have hji : j = i := by omega
          subst hji
          rw [swp_i, swp_o a (by omega) (by omega)]
          exact H1 c d (by omega) (by omega) hd hcd
      · rename_i hl
        have hgl : g (a c) ≤ g (a i) := Int.not_lt.mp fun z => hl ((hlt _ _ (hn _ hi) (hn _ c1)).mpr z)
        intro j d hj hd hcd
        by_cases j1 : j = i
        · subst j1; exact Int.le_trans (cm d hd hcd) hgl
        · exact H1 j d hj j1 hd hcd
    · rename_i h
      intro j d hj hd hcd
      by_cases j1 : j = i
      · subst j1; exfalso; omega
      · exact H1 j d hj j1 hd hcd
theorem hs1_heap {lt : Nat → Nat → Bool} {g : Nat → Int} {N : Nat} (hlt : ∀ x y, x < N → y < N → (lt x y = true ↔ g x < g y)) : ∀ (k : Nat) (a : Nat → Nat), k ≤ N → PermN N a → hsHeap g a k N → hsHeap g (hs1 lt N k a) 0 N := by
  intro k
  induction k with
  | zero => intro a _ _ h; exact h
  | succ k ih =>
    intro a hk hp h
    refine ih _ (by omega) (snk_perm lt _ _ _ _ (by omega) (Nat.le_refl _) hp) (snk_heap hlt N a k N k hp.1 (Nat.le_refl _) (by omega) (by omega) (fun j d hj hjk hd hcd => h j d (by omega) hd hcd) (fun j d hj hji => by omega))
theorem hs_max {g : Nat → Int} {a : Nat → Nat} {n : Nat} (h : hsHeap g a 0 n) : ∀ k, k < n → g (a k) ≤ g (a 0) := by
  intro k
  induction k using Nat.strongRecOn with
  | _ k ih =>
    intro hk
    by_cases h0 : k = 0
    · subst h0; exact Int.le_refl _
    · exact Int.le_trans (h ((k - 1) / 2) k (Nat.zero_le _) hk (by omega)) (ih ((k - 1) / 2) (by omega) (by omega))
theorem hs2_sorted {lt : Nat → Nat → Bool} {g : Nat → Int} {N : Nat} (hlt : ∀ x y, x < N → y < N → (lt x y = true ↔ g x < g y)) (hg : ∀ x y, x < N → y < N → g x = g y → x = y) : ∀ (n : Nat) (a : Nat → Nat), n < N → PermN N a → hsHeap g a 0 (n + 1) →
    (∀ i j, i < j → n < j → j < N → g (a i) < g (a j)) → ∀ i j, i < j → j < N → g (hs2 lt n a i) < g (hs2 lt n a j) := by
  intro n
  induction n with
  | zero => intro a _ _ _ h i j hij hj; exact h i j hij (by omega) hj
  | succ n ih =>
    intro a hn hp hh ht
    have hp1 : PermN N (swp a 0 (n + 1)) := hp.sw (by omega) (by omega)
    have hr := snk_rear lt (n + 1) (swp a 0 (n + 1)) 0 (n + 1) (by omega)
    have hp2 := snk_perm lt (N := N) (n + 1) (swp a 0 (n + 1)) 0 (n + 1) (by omega) (by omega) hp1
    have hh2 : hsHeap g (snk lt (n + 1) (swp a 0 (n + 1)) 0 (n + 1)) 0 (n + 1) := by
      refine snk_heap hlt (n + 1) (swp a 0 (n + 1)) 0 (n + 1) 0 (fun k hk => hp1.1 k (by omega)) (Nat.le_refl _) (by omega) (by omega) (fun j d _ hj hd hcd => ?_) (fun j d _ hji => by omega)
      rw [swp_o a (by omega) (by omega), swp_o a (by omega) (by omega)]
      exact hh j d (Nat.zero_le _) (by omega) hcd
    have hmx := hs_max hh
    simp only [hs2]
    generalize hb : snk lt (n + 1) (swp a 0 (n + 1)) 0 (n + 1) = b at hr hp2 hh2
    have hold : ∀ i, i < n + 1 → ∃ z, 0 < z ∧ z < n + 2 ∧ b i = a z := by
      intro i hi
      obtain ⟨y, hy, e⟩ := hr.2 i hi
      by_cases y0 : y = 0
      · refine ⟨n + 1, by omega, by omega, ?_⟩
        rw [e, y0, swp_i]
      · refine ⟨y, by omega, by omega, ?_⟩
        rw [e, swp_o a y0 (by omega)]
    refine ih b (by omega) hp2 hh2 (fun i j hij hj hjN => ?_)
    rw [hr.1 j (by omega)]
    by_cases j1 : j = n + 1
    · subst j1
      rw [swp_j]
      obtain ⟨z, z0, z1, e⟩ := hold i hij
      rw [e]
      have h1 := hmx z (by omega)
      have h2 : g (a z) ≠ g (a 0) := fun q => by
        have := hp.2.1 z 0 (by omega) (by omega) (hg _ _ (hp.1 z (by omega)) (hp.1 0 (by omega)) q)
        omega
      omega
    · rw [swp_o a (by omega) j1]
      by_cases i1 : i < n + 1
      · obtain ⟨z, z0, z1, e⟩ := hold i i1
        rw [e]; exact ht z j (by omega) (by omega) hjN
      · rw [hr.1 i (by omega)]
        by_cases i2 : i = n + 1
        · subst i2; rw [swp_j]; exact ht 0 j (by omega) (by omega) hjN
        · rw [swp_o a (by omega) i2]; exact ht i j hij (by omega) hjN
theorem hsort_sorted {lt : Nat → Nat → Bool} {g : Nat → Int} {N : Nat} (hlt : ∀ x y, x < N → y < N → (lt x y = true ↔ g x < g y)) (hg : ∀ x y, x < N → y < N → g x = g y → x = y) : ∀ i j, i < j → j < N → g (hsort lt N i) < g (hsort lt N j) := by
  intro i j hij hj
  unfold hsort
  have hp : PermN N (hs1 lt N (N / 2) (fun k => k)) := hs1_perm lt _ _ (by omega) (PermN.idn N)
  refine hs2_sorted hlt hg (N - 1) _ (by omega) hp ?_ (fun i j _ h1 h2 => by omega) i j hij hj
  rw [show N - 1 + 1 = N by omega]
  exact hs1_heap hlt (N / 2) _ (by omega) (PermN.idn N) (fun j d h1 h2 h3 => by omega)
/-! the weight of a place: its key, then the place -/
def wt (K : Nat → Int32) (k : Nat) : Int := (K k).toInt * 4096 + k
theorem wt_inj {K : Nat → Int32} {x y : Nat} (hx : x < 4096) (hy : y < 4096) (h : wt K x = wt K y) : x = y := by
  unfold wt at h; omega
theorem wt_key {K : Nat → Int32} {x y : Nat} (hx : x < 4096) (hy : y < 4096) (h : wt K x < wt K y) : (K x).toInt ≤ (K y).toInt := by
  unfold wt at h; omega
theorem ltB_wt {fk fp : Nat → Int32} {N : Nat} (hN : N ≤ 4096) (hp : ∀ k, k < N → fp k = nI k) (i j : Nat) (hi : i < N) (hj : j < N) : ltB fk fp i j = true ↔ wt fk i < wt fk j := by
  unfold ltB wt
  rw [hp i hi, hp j hj]
  split
  · rename_i h
    rw [h, decide_eq_true_eq, nI_ltI (by omega) (by omega)]
    omega
  · rename_i h
    rw [decide_eq_true_eq, Int32.lt_iff_toInt_lt]
    have h2 : (fk i).toInt ≠ (fk j).toInt := fun q => h (Int32.toInt_inj.mp q)
    omega
end
section
/-! ===== ExternalSorter: isBefore, swap, sink, sort (walks printed by gen/es1.py) ===== -/
section ES1
variable {l : Launch} {D : va_G} {cI cZ cJ : ClassId} {q : Nat → Nat} {w sp mo wl : Nat} {fk fv fp sk sv : Nat → Int32} {ats ens : Nat → Nat} {wn : Nat → Option Nat} {held spilled fed : Nat} {sealed : Bool} {runs size consumed : Nat} {current key value many sum least greatest : Int32} {sz : Nat}
theorem ltB_t1 {i j : Nat} (h : fk i = fk j) (h2 : ¬ fp j ≤ fp i) : ltB fk fp i j = true := by unfold ltB; rw [if_pos h, decide_eq_true_eq]; exact Int32.not_le.mp h2
theorem ltB_f1 {i j : Nat} (h : fk i = fk j) (h2 : fp j ≤ fp i) : ltB fk fp i j = false := by unfold ltB; rw [if_pos h, decide_eq_false_iff_not]; exact Int32.not_lt.mpr h2
theorem ltB_t2 {i j : Nat} (h : ¬ fk i = fk j) (h2 : ¬ fk j ≤ fk i) : ltB fk fp i j = true := by unfold ltB; rw [if_neg h, decide_eq_true_eq]; exact Int32.not_le.mp h2
theorem ltB_f2 {i j : Nat} (h : ¬ fk i = fk j) (h2 : fk j ≤ fk i) : ltB fk fp i j = false := by unfold ltB; rw [if_neg h, decide_eq_false_iff_not]; exact Int32.not_lt.mpr h2
set_option maxHeartbeats 4000000 in
set_option maxRecDepth 100000 in
theorem c_ES_isBefore {i j : Nat} (hi : i < w) (hj : j < w) (hwb : w ≤ 64) : MetI l y_ES_isBefore b_ES_isBefore 3 (some .boolean) (rmF 0 0) D (tyL cI cZ cJ) [.ref (q 0), .int (nI i), .int (nI j)] (esW cI q w sp mo wl fk fv fp sk sv ats ens wn held spilled fed sealed runs size consumed current key value many sum least greatest) sz (fun r (_ : Unit) => r = bI (ltB fk fp i j)) (fun _ => esW cI q w sp mo wl fk fv fp sk sv ats ens wn held spilled fed sealed runs size consumed current key value many sum least greatest) := by
  refine MetI.of (by decide) (Nat.le_of_ble_eq_true rfl) ?_
  intro p e s m below meth c A ls C hnm hA hw hl
  have hx := C.1.1
  have hb := C.1.2.1
  have hl : lv_has ls 3 [(0, .ref (q 0)), (1, .int (nI i)), (2, .int (nI j))] := hl
  refine lv_aload_n hx hb d_ES_isBefore_0 rfl (lv_at hl 0 rfl) ?_
  refine es_get C hw rfl lk_ES_2 rfl d_ES_isBefore_1 ?_
  refine lv_iload_n hx hb d_ES_isBefore_4 rfl (lv_at hl 1 rfl) ?_
  refine zr_ald C hw 1 0 rfl rfl (by omega) (by omega) (v := fk i) rfl d_ES_isBefore_5 ?_
  refine lv_aload_n hx hb d_ES_isBefore_6 rfl (lv_at hl 0 rfl) ?_
  refine es_get C hw rfl lk_ES_2 rfl d_ES_isBefore_7 ?_
  refine lv_iload_n hx hb d_ES_isBefore_10 rfl (lv_at hl 2 rfl) ?_
  refine zr_ald C hw 1 0 rfl rfl (by omega) (by omega) (v := fk j) rfl d_ES_isBefore_11 ?_
  refine lv_icmp_eq (tgt := 38) hx hb d_ES_isBefore_12 (by decide) (fun h12 => ?_) (fun h12 => ?_)
  · refine lv_aload_n hx hb d_ES_isBefore_38 rfl (lv_at hl 0 rfl) ?_
    refine es_get C hw rfl lk_ES_4 rfl d_ES_isBefore_39 ?_
    refine lv_iload_n hx hb d_ES_isBefore_42 rfl (lv_at hl 1 rfl) ?_
    refine zr_ald C hw 3 0 rfl rfl (by omega) (by omega) (v := fp i) rfl d_ES_isBefore_43 ?_
    refine lv_aload_n hx hb d_ES_isBefore_44 rfl (lv_at hl 0 rfl) ?_
    refine es_get C hw rfl lk_ES_4 rfl d_ES_isBefore_45 ?_
    refine lv_iload_n hx hb d_ES_isBefore_48 rfl (lv_at hl 2 rfl) ?_
    refine zr_ald C hw 3 0 rfl rfl (by omega) (by omega) (v := fp j) rfl d_ES_isBefore_49 ?_
    refine lv_icmp_ge (tgt := 57) hx hb d_ES_isBefore_50 (by decide) (fun h50 => ?_) (fun h50 => ?_)
    · refine lv_iconst (v := bI false) hx hb d_ES_isBefore_57 (by decide) ?_
      exact zr_zret C () (congrArg bI (by first | exact (ltB_t1 h12 h50).symm | exact (ltB_f1 h12 h50).symm | exact (ltB_t2 h12 h27).symm | exact (ltB_f2 h12 h27).symm)) (bI_nar _) hw d_ES_isBefore_58
    · refine lv_iconst (v := bI true) hx hb d_ES_isBefore_53 (by decide) ?_
      refine lv_goto (tgt := 58) hx hb d_ES_isBefore_54 (by decide) ?_
      exact zr_zret C () (congrArg bI (by first | exact (ltB_t1 h12 h50).symm | exact (ltB_f1 h12 h50).symm | exact (ltB_t2 h12 h27).symm | exact (ltB_f2 h12 h27).symm)) (bI_nar _) hw d_ES_isBefore_58
  · refine lv_aload_n hx hb d_ES_isBefore_15 rfl (lv_at hl 0 rfl) ?_
    refine es_get C hw rfl lk_ES_2 rfl d_ES_isBefore_16 ?_
    refine lv_iload_n hx hb d_ES_isBefore_19 rfl (lv_at hl 1 rfl) ?_
    refine zr_ald C hw 1 0 rfl rfl (by omega) (by omega) (v := fk i) rfl d_ES_isBefore_20 ?_
    refine lv_aload_n hx hb d_ES_isBefore_21 rfl (lv_at hl 0 rfl) ?_
    refine es_get C hw rfl lk_ES_2 rfl d_ES_isBefore_22 ?_
    refine lv_iload_n hx hb d_ES_isBefore_25 rfl (lv_at hl 2 rfl) ?_
    refine zr_ald C hw 1 0 rfl rfl (by omega) (by omega) (v := fk j) rfl d_ES_isBefore_26 ?_
    refine lv_icmp_ge (tgt := 34) hx hb d_ES_isBefore_27 (by decide) (fun h27 => ?_) (fun h27 => ?_)
    · refine lv_iconst (v := bI false) hx hb d_ES_isBefore_34 (by decide) ?_
      refine lv_goto (tgt := 58) hx hb d_ES_isBefore_35 (by decide) ?_
      exact zr_zret C () (congrArg bI (by first | exact (ltB_t1 h12 h50).symm | exact (ltB_f1 h12 h50).symm | exact (ltB_t2 h12 h27).symm | exact (ltB_f2 h12 h27).symm)) (bI_nar _) hw d_ES_isBefore_58
    · refine lv_iconst (v := bI true) hx hb d_ES_isBefore_30 (by decide) ?_
      refine lv_goto (tgt := 58) hx hb d_ES_isBefore_31 (by decide) ?_
      exact zr_zret C () (congrArg bI (by first | exact (ltB_t1 h12 h50).symm | exact (ltB_f1 h12 h50).symm | exact (ltB_t2 h12 h27).symm | exact (ltB_f2 h12 h27).symm)) (bI_nar _) hw d_ES_isBefore_58
set_option maxHeartbeats 4000000 in
set_option maxRecDepth 100000 in
theorem c_ES_swap {a : Nat → Nat} {i j : Nat} (hi : i < w) (hj : j < w) (hwb : w ≤ 64) : MetV l y_ES_swap b_ES_swap 4 (rmF 0 0) D (tyL cI cZ cJ) [.ref (q 0), .int (nI i), .int (nI j)] (esW cI q w sp mo wl (fun z => fk (a z)) (fun z => fv (a z)) (fun z => fp (a z)) sk sv ats ens wn held spilled fed sealed runs size consumed current key value many sum least greatest) sz (fun (_ : Unit) => True) (fun _ => esW cI q w sp mo wl (fun z => fk (swp a i j z)) (fun z => fv (swp a i j z)) (fun z => fp (swp a i j z)) sk sv ats ens wn held spilled fed sealed runs size consumed current key value many sum least greatest) := by
  refine MetV.of (by decide) (Nat.le_of_ble_eq_true rfl) ?_
  intro p e s m below meth c A ls C hnm hA hw hl
  have hx := C.1.1
  have hb := C.1.2.1
  have hl : lv_has ls 4 [(0, .ref (q 0)), (1, .int (nI i)), (2, .int (nI j))] := hl
  refine lv_aload_n hx hb d_ES_swap_0 rfl (lv_at hl 0 rfl) ?_
  refine es_get C hw rfl lk_ES_2 rfl d_ES_swap_1 ?_
  refine lv_iload_n hx hb d_ES_swap_4 rfl (lv_at hl 1 rfl) ?_
  refine zr_ald C hw 1 0 rfl rfl (by omega) (by omega) (v := fk (a i)) rfl d_ES_swap_5 ?_
  refine lv_istore_n (lv' := [(3, .int (fk (a i))), (0, .ref (q 0)), (1, .int (nI i)), (2, .int (nI j))]) hx hb d_ES_swap_6 rfl hl (by decide) rfl (fun ls hl => ?_)
  refine lv_aload_n hx hb d_ES_swap_7 rfl (lv_at hl 1 rfl) ?_
  refine es_get C hw rfl lk_ES_2 rfl d_ES_swap_8 ?_
  refine lv_iload_n hx hb d_ES_swap_11 rfl (lv_at hl 2 rfl) ?_
  refine lv_aload_n hx hb d_ES_swap_12 rfl (lv_at hl 1 rfl) ?_
  refine es_get C hw rfl lk_ES_2 rfl d_ES_swap_13 ?_
  refine lv_iload_n hx hb d_ES_swap_16 rfl (lv_at hl 3 rfl) ?_
  refine zr_ald C hw 1 0 rfl rfl (by omega) (by omega) (v := fk (a j)) rfl d_ES_swap_17 ?_
  refine zr_ast C hw 1 0 rfl rfl (by omega) (by omega) rfl (W1 := esW cI q w sp mo wl (upd (fun z => fk (a z)) i (fk (a j))) (fun z => fv (a z)) (fun z => fp (a z)) sk sv ats ens wn held spilled fed sealed runs size consumed current key value many sum least greatest) rfl d_ES_swap_18 (fun H locs hw => ?_)
  refine lv_aload_n hx hb d_ES_swap_19 rfl (lv_at hl 1 rfl) ?_
  refine es_get C hw rfl lk_ES_2 rfl d_ES_swap_20 ?_
  refine lv_iload_n hx hb d_ES_swap_23 rfl (lv_at hl 3 rfl) ?_
  refine lv_iload_n hx hb d_ES_swap_24 rfl (lv_at hl 0 rfl) ?_
  refine zr_ast C hw 1 0 rfl rfl (by omega) (by omega) (swp_comp fk a i j) (W1 := esW cI q w sp mo wl (fun z => fk (swp a i j z)) (fun z => fv (a z)) (fun z => fp (a z)) sk sv ats ens wn held spilled fed sealed runs size consumed current key value many sum least greatest) rfl d_ES_swap_25 (fun H locs hw => ?_)
  refine lv_aload_n hx hb d_ES_swap_26 rfl (lv_at hl 1 rfl) ?_
  refine es_get C hw rfl lk_ES_3 rfl d_ES_swap_27 ?_
  refine lv_iload_n hx hb d_ES_swap_30 rfl (lv_at hl 2 rfl) ?_
  refine zr_ald C hw 2 0 rfl rfl (by omega) (by omega) (v := fv (a i)) rfl d_ES_swap_31 ?_
  refine lv_istore_n (lv' := [(3, .int (fv (a i))), (0, .ref (q 0)), (1, .int (nI i)), (2, .int (nI j))]) hx hb d_ES_swap_32 rfl hl (by decide) rfl (fun ls hl => ?_)
  refine lv_aload_n hx hb d_ES_swap_33 rfl (lv_at hl 1 rfl) ?_
  refine es_get C hw rfl lk_ES_3 rfl d_ES_swap_34 ?_
  refine lv_iload_n hx hb d_ES_swap_37 rfl (lv_at hl 2 rfl) ?_
  refine lv_aload_n hx hb d_ES_swap_38 rfl (lv_at hl 1 rfl) ?_
  refine es_get C hw rfl lk_ES_3 rfl d_ES_swap_39 ?_
  refine lv_iload_n hx hb d_ES_swap_42 rfl (lv_at hl 3 rfl) ?_
  refine zr_ald C hw 2 0 rfl rfl (by omega) (by omega) (v := fv (a j)) rfl d_ES_swap_43 ?_
  refine zr_ast C hw 2 0 rfl rfl (by omega) (by omega) rfl (W1 := esW cI q w sp mo wl (fun z => fk (swp a i j z)) (upd (fun z => fv (a z)) i (fv (a j))) (fun z => fp (a z)) sk sv ats ens wn held spilled fed sealed runs size consumed current key value many sum least greatest) rfl d_ES_swap_44 (fun H locs hw => ?_)
  refine lv_aload_n hx hb d_ES_swap_45 rfl (lv_at hl 1 rfl) ?_
  refine es_get C hw rfl lk_ES_3 rfl d_ES_swap_46 ?_
  refine lv_iload_n hx hb d_ES_swap_49 rfl (lv_at hl 3 rfl) ?_
  refine lv_iload_n hx hb d_ES_swap_50 rfl (lv_at hl 0 rfl) ?_
  refine zr_ast C hw 2 0 rfl rfl (by omega) (by omega) (swp_comp fv a i j) (W1 := esW cI q w sp mo wl (fun z => fk (swp a i j z)) (fun z => fv (swp a i j z)) (fun z => fp (a z)) sk sv ats ens wn held spilled fed sealed runs size consumed current key value many sum least greatest) rfl d_ES_swap_51 (fun H locs hw => ?_)
  refine lv_aload_n hx hb d_ES_swap_52 rfl (lv_at hl 1 rfl) ?_
  refine es_get C hw rfl lk_ES_4 rfl d_ES_swap_53 ?_
  refine lv_iload_n hx hb d_ES_swap_56 rfl (lv_at hl 2 rfl) ?_
  refine zr_ald C hw 3 0 rfl rfl (by omega) (by omega) (v := fp (a i)) rfl d_ES_swap_57 ?_
  refine lv_istore_n (lv' := [(3, .int (fp (a i))), (0, .ref (q 0)), (1, .int (nI i)), (2, .int (nI j))]) hx hb d_ES_swap_58 rfl hl (by decide) rfl (fun ls hl => ?_)
  refine lv_aload_n hx hb d_ES_swap_59 rfl (lv_at hl 1 rfl) ?_
  refine es_get C hw rfl lk_ES_4 rfl d_ES_swap_60 ?_
  refine lv_iload_n hx hb d_ES_swap_63 rfl (lv_at hl 2 rfl) ?_
  refine lv_aload_n hx hb d_ES_swap_64 rfl (lv_at hl 1 rfl) ?_
  refine es_get C hw rfl lk_ES_4 rfl d_ES_swap_65 ?_
  refine lv_iload_n hx hb d_ES_swap_68 rfl (lv_at hl 3 rfl) ?_
  refine zr_ald C hw 3 0 rfl rfl (by omega) (by omega) (v := fp (a j)) rfl d_ES_swap_69 ?_
  refine zr_ast C hw 3 0 rfl rfl (by omega) (by omega) rfl (W1 := esW cI q w sp mo wl (fun z => fk (swp a i j z)) (fun z => fv (swp a i j z)) (upd (fun z => fp (a z)) i (fp (a j))) sk sv ats ens wn held spilled fed sealed runs size consumed current key value many sum least greatest) rfl d_ES_swap_70 (fun H locs hw => ?_)
  refine lv_aload_n hx hb d_ES_swap_71 rfl (lv_at hl 1 rfl) ?_
  refine es_get C hw rfl lk_ES_4 rfl d_ES_swap_72 ?_
  refine lv_iload_n hx hb d_ES_swap_75 rfl (lv_at hl 3 rfl) ?_
  refine lv_iload_n hx hb d_ES_swap_76 rfl (lv_at hl 0 rfl) ?_
  refine zr_ast C hw 3 0 rfl rfl (by omega) (by omega) (swp_comp fp a i j) (W1 := esW cI q w sp mo wl (fun z => fk (swp a i j z)) (fun z => fv (swp a i j z)) (fun z => fp (swp a i j z)) sk sv ats ens wn held spilled fed sealed runs size consumed current key value many sum least greatest) rfl d_ES_swap_77 (fun H locs hw => ?_)
  exact zr_vret C () trivial hw d_ES_swap_78
theorem h_ES_isBefore : y_ES_isBefore.cls ≠ "java/lang/invoke/MethodHandle" ∧ y_ES_isBefore.cls ≠ "java/lang/invoke/VarHandle" ∧ (parseMethodDescriptor y_ES_isBefore.desc).map (fun d => d.parameters.length) = some 2 := by decide +kernel
theorem g_ES_ES_isBefore : GoodIn tb (wsV R_ES 72 y_ES_isBefore.cls y_ES_isBefore (wd y_ES_isBefore b_ES_isBefore 3 (some .boolean))) := gd_V (by decide +kernel)
theorem h_ES_swap : y_ES_swap.cls ≠ "java/lang/invoke/MethodHandle" ∧ y_ES_swap.cls ≠ "java/lang/invoke/VarHandle" ∧ (parseMethodDescriptor y_ES_swap.desc).map (fun d => d.parameters.length) = some 2 := by decide +kernel
theorem g_ES_ES_swap : GoodIn tb (wsV R_ES 76 y_ES_swap.cls y_ES_swap (wd y_ES_swap b_ES_swap 4 none)) := gd_V (by decide +kernel)
theorem snk_a {lt : Nat → Nat → Bool} {f : Nat} {a : Nat → Nat} {i n : Nat} (h : n ≤ 2 * i + 1) : snk lt (f + 1) a i n = a := by simp only [snk]; rw [if_neg (by omega)]
theorem snk_b {lt : Nat → Nat → Bool} {f : Nat} {a : Nat → Nat} {i n d : Nat} (h : 2 * i + 1 < n) (hc : hs_ch lt a i n = d) (hl : lt (a i) (a d) = false) : snk lt (f + 1) a i n = a := by simp only [snk]; rw [if_pos h, hc, hl, if_neg (by decide)]
theorem snk_s {lt : Nat → Nat → Bool} {f : Nat} {a : Nat → Nat} {i n d : Nat} (h : 2 * i + 1 < n) (hc : hs_ch lt a i n = d) (hl : lt (a i) (a d) = true) : snk lt (f + 1) a i n = snk lt f (swp a i d) d n := by simp only [snk]; rw [if_pos h, hc, if_pos hl]
theorem hs_ch_1 {lt : Nat → Nat → Bool} {a : Nat → Nat} {i n : Nat} (h : n ≤ 2 * i + 1 + 1) : hs_ch lt a i n = 2 * i + 1 := by unfold hs_ch; rw [if_neg (fun q => by omega)]
theorem hs_ch_2 {lt : Nat → Nat → Bool} {a : Nat → Nat} {i n : Nat} (h : lt (a (2 * i + 1)) (a (2 * i + 1 + 1)) = false) : hs_ch lt a i n = 2 * i + 1 := by unfold hs_ch; rw [if_neg (fun q => by rw [h] at q; exact absurd q.2 (by decide))]
theorem hs_ch_3 {lt : Nat → Nat → Bool} {a : Nat → Nat} {i n : Nat} (h1 : 2 * i + 1 + 1 < n) (h : lt (a (2 * i + 1)) (a (2 * i + 1 + 1)) = true) : hs_ch lt a i n = 2 * i + 1 + 1 := by unfold hs_ch; rw [if_pos ⟨h1, h⟩]
set_option maxHeartbeats 4000000 in
set_option maxRecDepth 100000 in
theorem lp_ES_sink {p : Program} {e : Env} {s : State} {m : MethodId} {args : Array Value} {below : List Frame} {meth : Method} {c : Code} {A : Nat → Prop} (C : Cx p m meth c b_ES_sink 5 none s args R_ES) (hA : ∀ q : Nat, s.heap.size ≤ q → A q) {n i0 : Nat} {afin : Nat → Nat} (hn : n ≤ w) (hwb : w ≤ 64) : ∀ (f : Nat) (a : Nat → Nat) (i : Nat) (H : Heap) (locs : List Loc) (ls : Array Slot), i < n → n ≤ i + f → snk (ltB fk fp) f a i n = afin → Wd D (tyL cI cZ cJ) A s H locs (esW cI q w sp mo wl (fun z => fk (a z)) (fun z => fv (a z)) (fun z => fp (a z)) sk sv ats ens wn held spilled fed sealed runs size consumed current key value many sum least greatest) → lv_has ls 5 [(4, .int (nI (2 * i + 1))), (3, .int (nI i)), (0, .ref (q 0)), (1, .int (nI i0)), (2, .int (nI n))] → W p l e (rmF 1 23) s m args below meth c H locs 0 0 (MQ below (va_Qv (fun (_ : Unit) => True) (cB D (tyL cI cZ cJ) A (fun _ => esW cI q w sp mo wl (fun z => fk (afin z)) (fun z => fv (afin z)) (fun z => fp (afin z)) sk sv ats ens wn held spilled fed sealed runs size consumed current key value many sum least greatest)) A) args s 0 0 A) (F0 m 9 ls []) := by
  have hx := C.1.1
  have hb := C.1.2.1
  intro f
  induction f with
  | zero => intro a i H locs ls h1 h2; omega
  | succ f ih =>
    intro a i H locs ls hi hf hfin hw hl
    refine lv_iload hx hb d_ES_sink_9 (lv_at hl 0 rfl) ?_
    refine lv_iload_n hx hb d_ES_sink_11 rfl (lv_at hl 4 rfl) ?_
    refine zr_cge hx hb (by omega) (by omega) (tgt := 70) d_ES_sink_12 (by decide) (fun h12 => ?_) (fun h12 => ?_)
    · have ea : a = afin := (snk_a h12).symm.trans hfin
      subst ea
      exact zr_vret C () trivial hw d_ES_sink_70
    · have half : ∀ (d : Nat) (H : Heap) (locs : List Loc) (ls : Array Slot), hs_ch (ltB fk fp) a i n = d → d < n → i < d → Wd D (tyL cI cZ cJ) A s H locs (esW cI q w sp mo wl (fun z => fk (a z)) (fun z => fv (a z)) (fun z => fp (a z)) sk sv ats ens wn held spilled fed sealed runs size consumed current key value many sum least greatest) → lv_has ls 5 [(4, .int (nI d)), (3, .int (nI i)), (0, .ref (q 0)), (1, .int (nI i0)), (2, .int (nI n))] → W p l e (rmF 1 23) s m args below meth c H locs 0 0 (MQ below (va_Qv (fun (_ : Unit) => True) (cB D (tyL cI cZ cJ) A (fun _ => esW cI q w sp mo wl (fun z => fk (afin z)) (fun z => fv (afin z)) (fun z => fp (afin z)) sk sv ats ens wn held spilled fed sealed runs size consumed current key value many sum least greatest)) A) args s 0 0 A) (F0 m 39 ls []) := by
        intro d H locs ls hc hdn hid hw hl
        refine lv_aload_n hx hb d_ES_sink_39 rfl (lv_at hl 2 rfl) ?_
        refine lv_iload_n hx hb d_ES_sink_40 rfl (lv_at hl 1 rfl) ?_
        refine lv_iload hx hb d_ES_sink_41 (lv_at hl 0 rfl) ?_
        refine zr_calli0 (As := [.int (nI i), .int (nI d)]) (rest := []) C hA hw hl.1 g_ES_ES_isBefore (c_ES_isBefore (by omega) (by omega) hwb) h_ES_isBefore ⟨Nat.le_of_ble_eq_true rfl, Nat.le_of_ble_eq_true rfl⟩ rfl rfl rfl (Nat.le_of_ble_eq_true rfl) d_ES_sink_43 ⟨rfl, rfl⟩ ⟨Nat.zero_le _, Nat.zero_le _⟩ (fun r u H locs hres hw => ?_)
        have hw : Wd D (tyL cI cZ cJ) A s H locs (esW cI q w sp mo wl (fun z => fk (a z)) (fun z => fv (a z)) (fun z => fp (a z)) sk sv ats ens wn held spilled fed sealed runs size consumed current key value many sum least greatest) := hw
        refine zr_top (y := bI (ltB fk fp (a (i)) (a (d)))) hres ?_
        refine zr_bne hx hb (tgt := 50) d_ES_sink_46 (by decide) (fun h46 => ?_) (fun h46 => ?_)
        · refine lv_aload_n hx hb d_ES_sink_50 rfl (lv_at hl 2 rfl) ?_
          refine lv_iload_n hx hb d_ES_sink_51 rfl (lv_at hl 1 rfl) ?_
          refine lv_iload hx hb d_ES_sink_52 (lv_at hl 0 rfl) ?_
          refine zr_callv0 (As := [.int (nI i), .int (nI d)]) (rest := []) C hA hw hl.1 g_ES_ES_swap (c_ES_swap (fk := fk) (fv := fv) (fp := fp) (a := a) (by omega) (by omega) hwb) h_ES_swap ⟨Nat.le_of_ble_eq_true rfl, Nat.le_of_ble_eq_true rfl⟩ rfl rfl rfl (Nat.le_of_ble_eq_true rfl) d_ES_sink_54 ⟨rfl, rfl⟩ ⟨Nat.zero_le _, Nat.zero_le _⟩ (fun u H locs hres hw => ?_)
          have hw : Wd D (tyL cI cZ cJ) A s H locs (esW cI q w sp mo wl (fun z => fk (swp a i d z)) (fun z => fv (swp a i d z)) (fun z => fp (swp a i d z)) sk sv ats ens wn held spilled fed sealed runs size consumed current key value many sum least greatest) := hw
          refine lv_iload hx hb d_ES_sink_57 (lv_at hl 0 rfl) ?_
          refine lv_istore_n (lv' := [(3, .int (nI d)), (4, .int (nI d)), (0, .ref (q 0)), (1, .int (nI i0)), (2, .int (nI n))]) hx hb d_ES_sink_59 rfl hl (by decide) rfl (fun ls hl => ?_)
          refine lv_iconst (v := nI 2) hx hb d_ES_sink_60 (by decide) ?_
          refine lv_iload_n hx hb d_ES_sink_61 rfl (lv_at hl 0 rfl) ?_
          refine zr_mul hx hb d_ES_sink_62 ?_
          refine lv_iconst (v := nI 1) hx hb d_ES_sink_63 (by decide) ?_
          refine zr_add hx hb d_ES_sink_64 ?_
          refine lv_istore (lv' := [(4, .int (nI ((2 * d) + 1))), (3, .int (nI d)), (0, .ref (q 0)), (1, .int (nI i0)), (2, .int (nI n))]) hx hb d_ES_sink_65 hl (by decide) rfl (fun ls hl => ?_)
          refine lv_goto (tgt := 9) hx hb d_ES_sink_67 (by decide) ?_
          exact ih (swp a i d) d H locs ls (by omega) (by omega) ((snk_s h12 hc h46).symm.trans hfin) hw (lv_sub hl [0, 1, 2, 3, 4] rfl)
        · have ea : a = afin := (snk_b h12 hc h46).symm.trans hfin
          subst ea
          exact zr_vret C () trivial hw d_ES_sink_49
      refine lv_iload hx hb d_ES_sink_15 (lv_at hl 0 rfl) ?_
      refine lv_iconst (v := nI 1) hx hb d_ES_sink_17 (by decide) ?_
      refine zr_add hx hb d_ES_sink_18 ?_
      refine lv_iload_n hx hb d_ES_sink_19 rfl (lv_at hl 4 rfl) ?_
      refine zr_cge hx hb (by omega) (by omega) (tgt := 39) d_ES_sink_20 (by decide) (fun h20 => ?_) (fun h20 => ?_)
      · exact half _ H locs ls (by first | exact hs_ch_1 h20 | exact hs_ch_2 h33 | exact hs_ch_3 h20 h33) (by omega) (by omega) hw hl
      · refine lv_aload_n hx hb d_ES_sink_23 rfl (lv_at hl 2 rfl) ?_
        refine lv_iload hx hb d_ES_sink_24 (lv_at hl 0 rfl) ?_
        refine lv_iload hx hb d_ES_sink_26 (lv_at hl 0 rfl) ?_
        refine lv_iconst (v := nI 1) hx hb d_ES_sink_28 (by decide) ?_
        refine zr_add hx hb d_ES_sink_29 ?_
        refine zr_calli0 (As := [.int (nI (2 * i + 1)), .int (nI ((2 * i + 1) + 1))]) (rest := []) C hA hw hl.1 g_ES_ES_isBefore (c_ES_isBefore (by omega) (by omega) hwb) h_ES_isBefore ⟨Nat.le_of_ble_eq_true rfl, Nat.le_of_ble_eq_true rfl⟩ rfl rfl rfl (Nat.le_of_ble_eq_true rfl) d_ES_sink_30 ⟨rfl, rfl⟩ ⟨Nat.zero_le _, Nat.zero_le _⟩ (fun r u H locs hres hw => ?_)
        have hw : Wd D (tyL cI cZ cJ) A s H locs (esW cI q w sp mo wl (fun z => fk (a z)) (fun z => fv (a z)) (fun z => fp (a z)) sk sv ats ens wn held spilled fed sealed runs size consumed current key value many sum least greatest) := hw
        refine zr_top (y := bI (ltB fk fp (a (2 * i + 1)) (a (2 * i + 1 + 1)))) hres ?_
        refine zr_beq hx hb (tgt := 39) d_ES_sink_33 (by decide) (fun h33 => ?_) (fun h33 => ?_)
        · exact half _ H locs ls (by first | exact hs_ch_1 h20 | exact hs_ch_2 h33 | exact hs_ch_3 h20 h33) (by omega) (by omega) hw hl
        · refine lv_iinc (v := nI (2 * i + 1 + 1)) (lv' := [(4, .int (nI (2 * i + 1 + 1))), (3, .int (nI i)), (0, .ref (q 0)), (1, .int (nI i0)), (2, .int (nI n))]) hx hb d_ES_sink_36 hl (k := 0) rfl (nI_1 _) (by decide) rfl (fun ls hl => ?_)
          exact half _ H locs ls (by first | exact hs_ch_1 h20 | exact hs_ch_2 h33 | exact hs_ch_3 h20 h33) (by omega) (by omega) hw hl
set_option maxHeartbeats 4000000 in
set_option maxRecDepth 100000 in
theorem c_ES_sink {a : Nat → Nat} {i n : Nat} (hi : i < n) (hn : n ≤ w) (hwb : w ≤ 64) : MetV l y_ES_sink b_ES_sink 5 (rmF 1 23) D (tyL cI cZ cJ) [.ref (q 0), .int (nI i), .int (nI n)] (esW cI q w sp mo wl (fun z => fk (a z)) (fun z => fv (a z)) (fun z => fp (a z)) sk sv ats ens wn held spilled fed sealed runs size consumed current key value many sum least greatest) sz (fun (_ : Unit) => True) (fun _ => esW cI q w sp mo wl (fun z => fk (snk (ltB fk fp) n a i n z)) (fun z => fv (snk (ltB fk fp) n a i n z)) (fun z => fp (snk (ltB fk fp) n a i n z)) sk sv ats ens wn held spilled fed sealed runs size consumed current key value many sum least greatest) := by
  refine MetV.of (by decide) (Nat.le_of_ble_eq_true rfl) ?_
  intro p e s m below meth c A ls C hnm hA hw hl
  have hx := C.1.1
  have hb := C.1.2.1
  have hl : lv_has ls 5 [(0, .ref (q 0)), (1, .int (nI i)), (2, .int (nI n))] := hl
  refine lv_iload_n hx hb d_ES_sink_0 rfl (lv_at hl 1 rfl) ?_
  refine lv_istore_n (lv' := [(3, .int (nI i)), (0, .ref (q 0)), (1, .int (nI i)), (2, .int (nI n))]) hx hb d_ES_sink_1 rfl hl (by decide) rfl (fun ls hl => ?_)
  refine lv_iconst (v := nI 2) hx hb d_ES_sink_2 (by decide) ?_
  refine lv_iload_n hx hb d_ES_sink_3 rfl (lv_at hl 0 rfl) ?_
  refine zr_mul hx hb d_ES_sink_4 ?_
  refine lv_iconst (v := nI 1) hx hb d_ES_sink_5 (by decide) ?_
  refine zr_add hx hb d_ES_sink_6 ?_
  refine lv_istore (lv' := [(4, .int (nI ((2 * i) + 1))), (3, .int (nI i)), (0, .ref (q 0)), (1, .int (nI i)), (2, .int (nI n))]) hx hb d_ES_sink_7 hl (by decide) rfl (fun ls hl => ?_)
  exact lp_ES_sink C hA hn hwb n a i _ _ ls hi (by omega) rfl hw (lv_sub hl [0, 1, 2, 3, 4] rfl)
theorem h_ES_sink : y_ES_sink.cls ≠ "java/lang/invoke/MethodHandle" ∧ y_ES_sink.cls ≠ "java/lang/invoke/VarHandle" ∧ (parseMethodDescriptor y_ES_sink.desc).map (fun d => d.parameters.length) = some 2 := by decide +kernel
theorem g_ES_ES_sink : GoodIn tb (wsV R_ES 80 y_ES_sink.cls y_ES_sink (wd y_ES_sink b_ES_sink 5 none)) := gd_V (by decide +kernel)
theorem m1_0 : nI 0 - nI 1 < 0 := by decide
theorem m1_0' : nI 0 - nI 1 ≤ 0 := by decide
theorem m1_s (k : Nat) : nI (k + 1) - nI 1 = nI k := nI_pred k
theorem m1_n {k : Nat} (h : k < 2 ^ 31) : ¬ nI (k + 1) - nI 1 < 0 := by rw [m1_s]; exact nI_pos h
theorem m1_d (k : Nat) : nI (k + 1) - nI 1 + Int32.ofInt (-1) = nI k - nI 1 := by rw [m1_s, Int32.sub_eq_add_neg, show Int32.ofInt (-1) = -nI 1 from by decide]
set_option maxHeartbeats 4000000 in
set_option maxRecDepth 100000 in
theorem lp_ES_sort1 {p : Program} {e : Env} {s : State} {m : MethodId} {args : Array Value} {below : List Frame} {meth : Method} {c : Code} {A : Nat → Prop} (C : Cx p m meth c b_ES_sort 2 none s args R_ES) (hA : ∀ q : Nat, s.heap.size ≤ q → A q) {Q : State → Prop} {afin : Nat → Nat} (hh : held ≤ w) (hwb : w ≤ 64) (KK : ∀ (H : Heap) (locs : List Loc) (ls : Array Slot), Wd D (tyL cI cZ cJ) A s H locs (esW cI q w sp mo wl (fun z => fk (afin z)) (fun z => fv (afin z)) (fun z => fp (afin z)) sk sv ats ens wn held spilled fed sealed runs size consumed current key value many sum least greatest) → lv_has ls 2 [(0, .ref (q 0))] → W p l e (rmF 2 47) s m args below meth c H locs 0 0 Q (F0 m 28 ls [])) : ∀ (k : Nat) (a : Nat → Nat) (H : Heap) (locs : List Loc) (ls : Array Slot), 2 * k ≤ held → hs1 (ltB fk fp) held k a = afin → Wd D (tyL cI cZ cJ) A s H locs (esW cI q w sp mo wl (fun z => fk (a z)) (fun z => fv (a z)) (fun z => fp (a z)) sk sv ats ens wn held spilled fed sealed runs size consumed current key value many sum least greatest) → lv_has ls 2 [(1, .int (nI k - nI 1)), (0, .ref (q 0))] → W p l e (rmF 2 47) s m args below meth c H locs 0 0 Q (F0 m 9 ls []) := by
  have hx := C.1.1
  have hb := C.1.2.1
  intro k
  induction k with
  | zero =>
    intro a H locs ls hk hfin hw hl
    refine lv_iload_n hx hb d_ES_sort_9 rfl (lv_at hl 0 rfl) ?_
    refine lv_if_lt (tgt := 28) hx hb d_ES_sort_10 (by decide) (fun h10 => ?_) (fun h10 => ?_)
    · have ea : a = afin := hfin
      subst ea
      exact KK H locs ls hw (lv_sub hl [1] rfl)
    · exact absurd m1_0 h10
  | succ k ih =>
    intro a H locs ls hk hfin hw hl
    refine lv_iload_n hx hb d_ES_sort_9 rfl (lv_at hl 0 rfl) ?_
    refine lv_if_lt (tgt := 28) hx hb d_ES_sort_10 (by decide) (fun h10 => ?_) (fun h10 => ?_)
    · exact absurd h10 (m1_n (by omega))
    · refine lv_aload_n hx hb d_ES_sort_13 rfl (lv_at hl 1 rfl) ?_
      refine lv_iload_n hx hb d_ES_sort_14 rfl (lv_at hl 0 rfl) ?_
      refine zr_top (y := nI k) (m1_s k) ?_
      refine lv_aload_n hx hb d_ES_sort_15 rfl (lv_at hl 1 rfl) ?_
      refine es_get C hw rfl lk_ES_5 rfl d_ES_sort_16 ?_
      refine zr_callv0 (As := [.int (nI k), .int (nI held)]) (rest := []) C hA hw hl.1 g_ES_ES_sink (c_ES_sink (fk := fk) (fv := fv) (fp := fp) (a := a) (by omega) hh hwb) h_ES_sink ⟨Nat.le_of_ble_eq_true rfl, Nat.le_of_ble_eq_true rfl⟩ rfl rfl rfl (Nat.le_of_ble_eq_true rfl) d_ES_sort_19 ⟨rfl, rfl⟩ ⟨Nat.zero_le _, Nat.zero_le _⟩ (fun u H locs hres hw => ?_)
      have hw : Wd D (tyL cI cZ cJ) A s H locs (esW cI q w sp mo wl (fun z => fk (snk (ltB fk fp) held a k held z)) (fun z => fv (snk (ltB fk fp) held a k held z)) (fun z => fp (snk (ltB fk fp) held a k held z)) sk sv ats ens wn held spilled fed sealed runs size consumed current key value many sum least greatest) := hw
      refine lv_iinc (v := nI k - nI 1) (lv' := [(1, .int (nI k - nI 1)), (0, .ref (q 0))]) hx hb d_ES_sort_22 hl (k := 0) rfl (m1_d k) (by decide) rfl (fun ls hl => ?_)
      refine lv_goto (tgt := 9) hx hb d_ES_sort_25 (by decide) ?_
      exact ih (snk (ltB fk fp) held a k held) H locs ls (by omega) hfin hw hl
set_option maxHeartbeats 4000000 in
set_option maxRecDepth 100000 in
theorem lp_ES_sort2 {p : Program} {e : Env} {s : State} {m : MethodId} {args : Array Value} {below : List Frame} {meth : Method} {c : Code} {A : Nat → Prop} (C : Cx p m meth c b_ES_sort 2 none s args R_ES) (hA : ∀ q : Nat, s.heap.size ≤ q → A q) {afin : Nat → Nat} (hwb : w ≤ 64) : ∀ (n : Nat) (a : Nat → Nat) (x1 : Int32) (H : Heap) (locs : List Loc) (ls : Array Slot), n < w → (x1 = nI n ∨ (n = 0 ∧ x1 = nI 0 - nI 1)) → hs2 (ltB fk fp) n a = afin → Wd D (tyL cI cZ cJ) A s H locs (esW cI q w sp mo wl (fun z => fk (a z)) (fun z => fv (a z)) (fun z => fp (a z)) sk sv ats ens wn held spilled fed sealed runs size consumed current key value many sum least greatest) → lv_has ls 2 [(1, .int x1), (0, .ref (q 0))] → W p l e (rmF 2 47) s m args below meth c H locs 0 0 (MQ below (va_Qv (fun (_ : Unit) => True) (cB D (tyL cI cZ cJ) A (fun _ => esW cI q w sp mo wl (fun z => fk (afin z)) (fun z => fv (afin z)) (fun z => fp (afin z)) sk sv ats ens wn held spilled fed sealed runs size consumed current key value many sum least greatest)) A) args s 0 0 A) (F0 m 35 ls []) := by
  have hx := C.1.1
  have hb := C.1.2.1
  intro n
  induction n with
  | zero =>
    intro a x1 H locs ls hn hx1 hfin hw hl
    have hx2 : x1 ≤ 0 := by
      rcases hx1 with h | ⟨-, h⟩
      · rw [h]; decide
      · rw [h]; decide
    refine lv_iload_n hx hb d_ES_sort_35 rfl (lv_at hl 0 rfl) ?_
    refine lv_if_le (tgt := 57) hx hb d_ES_sort_36 (by decide) (fun h36 => ?_) (fun h36 => ?_)
    · have ea : a = afin := hfin
      subst ea
      exact zr_vret C () trivial hw d_ES_sort_57
    · exact absurd hx2 h36
  | succ n ih =>
    intro a x1 H locs ls hn hx1 hfin hw hl
    have hx2 : x1 = nI (n + 1) := by
      rcases hx1 with h | ⟨h, -⟩
      · exact h
      · omega
    subst hx2
    refine lv_iload_n hx hb d_ES_sort_35 rfl (lv_at hl 0 rfl) ?_
    refine zr_cle0 hx hb (by omega) (tgt := 57) d_ES_sort_36 (by decide) (fun h36 => ?_) (fun h36 => ?_)
    · exact absurd h36 (by omega)
    · refine lv_aload_n hx hb d_ES_sort_39 rfl (lv_at hl 1 rfl) ?_
      refine lv_iconst (v := nI 0) hx hb d_ES_sort_40 (by decide) ?_
      refine lv_iload_n hx hb d_ES_sort_41 rfl (lv_at hl 0 rfl) ?_
      refine zr_callv0 (As := [.int (nI 0), .int (nI (n + 1))]) (rest := []) C hA hw hl.1 g_ES_ES_swap (c_ES_swap (fk := fk) (fv := fv) (fp := fp) (a := a) (by omega) (by omega) hwb) h_ES_swap ⟨Nat.le_of_ble_eq_true rfl, Nat.le_of_ble_eq_true rfl⟩ rfl rfl rfl (Nat.le_of_ble_eq_true rfl) d_ES_sort_42 ⟨rfl, rfl⟩ ⟨Nat.zero_le _, Nat.zero_le _⟩ (fun u H locs hres hw => ?_)
      have hw : Wd D (tyL cI cZ cJ) A s H locs (esW cI q w sp mo wl (fun z => fk (swp a 0 (n + 1) z)) (fun z => fv (swp a 0 (n + 1) z)) (fun z => fp (swp a 0 (n + 1) z)) sk sv ats ens wn held spilled fed sealed runs size consumed current key value many sum least greatest) := hw
      refine lv_aload_n hx hb d_ES_sort_45 rfl (lv_at hl 1 rfl) ?_
      refine lv_iconst (v := nI 0) hx hb d_ES_sort_46 (by decide) ?_
      refine lv_iload_n hx hb d_ES_sort_47 rfl (lv_at hl 0 rfl) ?_
      refine zr_callv0 (As := [.int (nI 0), .int (nI (n + 1))]) (rest := []) C hA hw hl.1 g_ES_ES_sink (c_ES_sink (fk := fk) (fv := fv) (fp := fp) (a := (swp a 0 (n + 1))) (by omega) (by omega) hwb) h_ES_sink ⟨Nat.le_of_ble_eq_true rfl, Nat.le_of_ble_eq_true rfl⟩ rfl rfl rfl (Nat.le_of_ble_eq_true rfl) d_ES_sort_48 ⟨rfl, rfl⟩ ⟨Nat.zero_le _, Nat.zero_le _⟩ (fun u H locs hres hw => ?_)
      have hw : Wd D (tyL cI cZ cJ) A s H locs (esW cI q w sp mo wl (fun z => fk (snk (ltB fk fp) (n + 1) (swp a 0 (n + 1)) 0 (n + 1) z)) (fun z => fv (snk (ltB fk fp) (n + 1) (swp a 0 (n + 1)) 0 (n + 1) z)) (fun z => fp (snk (ltB fk fp) (n + 1) (swp a 0 (n + 1)) 0 (n + 1) z)) sk sv ats ens wn held spilled fed sealed runs size consumed current key value many sum least greatest) := hw
      refine lv_iinc (v := nI n) (lv' := [(1, .int (nI n)), (0, .ref (q 0))]) hx hb d_ES_sort_51 hl (k := 0) rfl (pk_m1 n) (by decide) rfl (fun ls hl => ?_)
      refine lv_goto (tgt := 35) hx hb d_ES_sort_54 (by decide) ?_
      exact ih (snk (ltB fk fp) (n + 1) (swp a 0 (n + 1)) 0 (n + 1)) _ H locs ls (by omega) (Or.inl rfl) hfin hw hl
set_option maxHeartbeats 4000000 in
set_option maxRecDepth 100000 in
theorem c_ES_sort (hh : held ≤ w) (hw0 : 0 < w) (hwb : w ≤ 64) : MetV l y_ES_sort b_ES_sort 2 (rmF 2 47) D (tyL cI cZ cJ) [.ref (q 0)] (esW cI q w sp mo wl fk fv fp sk sv ats ens wn held spilled fed sealed runs size consumed current key value many sum least greatest) sz (fun (_ : Unit) => True) (fun _ => esW cI q w sp mo wl (fun z => fk (hsort (ltB fk fp) held z)) (fun z => fv (hsort (ltB fk fp) held z)) (fun z => fp (hsort (ltB fk fp) held z)) sk sv ats ens wn held spilled fed sealed runs size consumed current key value many sum least greatest) := by
  refine MetV.of (by decide) (Nat.le_of_ble_eq_true rfl) ?_
  intro p e s m below meth c A ls C hnm hA hw hl
  have hx := C.1.1
  have hb := C.1.2.1
  have hl : lv_has ls 2 [(0, .ref (q 0))] := hl
  refine lv_aload_n hx hb d_ES_sort_0 rfl (lv_at hl 0 rfl) ?_
  refine es_get C hw rfl lk_ES_5 rfl d_ES_sort_1 ?_
  refine lv_iconst (v := nI 2) hx hb d_ES_sort_4 (by decide) ?_
  refine zr_div hx hb (by omega) (by omega) (by omega) d_ES_sort_5 ?_
  refine lv_iconst (v := nI 1) hx hb d_ES_sort_6 (by decide) ?_
  refine lv_isub hx hb d_ES_sort_7 ?_
  refine lv_istore_n (lv' := [(1, .int ((nI (held / 2)) - (nI 1))), (0, .ref (q 0))]) hx hb d_ES_sort_8 rfl hl (by decide) rfl (fun ls hl => ?_)
  refine lp_ES_sort1 (fk := fk) (fv := fv) (fp := fp) (afin := hs1 (ltB fk fp) held (held / 2) (fun k => k)) C hA hh hwb (fun H locs ls hw hl => ?_) (held / 2) (fun k => k) _ _ ls (by omega) rfl hw (lv_sub hl [0, 1] rfl)
  refine lv_aload_n hx hb d_ES_sort_28 rfl (lv_at hl 0 rfl) ?_
  refine es_get C hw rfl lk_ES_5 rfl d_ES_sort_29 ?_
  refine lv_iconst (v := nI 1) hx hb d_ES_sort_32 (by decide) ?_
  refine lv_isub hx hb d_ES_sort_33 ?_
  refine lv_istore_n (lv' := [(1, .int ((nI held) - (nI 1))), (0, .ref (q 0))]) hx hb d_ES_sort_34 rfl hl (by decide) rfl (fun ls hl => ?_)
  exact lp_ES_sort2 (afin := hsort (ltB fk fp) held) C hA hwb (held - 1) (hs1 (ltB fk fp) held (held / 2) (fun k => k)) (nI held - nI 1) H locs ls (by omega) (by
    by_cases h : held = 0
    · subst h; exact Or.inr ⟨rfl, rfl⟩
    · exact Or.inl (pk_sub (by omega))) rfl hw (lv_sub hl [0, 1] rfl)
end ES1
end
section
/-! ===== ExternalSorter: hasRow, keyOf, valueOf, top, first, play, spill (walks printed by gen/es2.py) ===== -/
section ES2
variable {l : Launch} {D : va_G} {cI cZ cJ : ClassId} {q : Nat → Nat} {w sp mo wl : Nat} {fk fv fp sk sv : Nat → Int32} {ats ens : Nat → Nat} {wn : Nat → Option Nat} {held spilled fed : Nat} {sealed : Bool} {runs size consumed : Nat} {current key value many sum least greatest : Int32} {sz : Nat}
def hasB (ats ens : Nat → Nat) (o : Option Nat) : Bool := match o with
  | none => false
  | some k => decide (ats k < ens k)
/-- the key of a run's next row, its value -/
def kfF (fk sk : Nat → Int32) (ats : Nat → Nat) (runs k : Nat) : Int32 := if k + 1 = runs then fk (ats k) else sk (ats k)
def pickF (ats ens : Nat → Nat) (kf : Nat → Int32) (o1 o2 : Option Nat) : Option Nat :=
  if hasB ats ens o1 = true ∧ hasB ats ens o2 = true then (match o1, o2 with
    | some a, some b => if kf a = kf b then some (min a b) else if kf a < kf b then some a else some b
    | _, _ => none)
  else if hasB ats ens o1 = true then o1 else if hasB ats ens o2 = true then o2 else none
/-- what a run must be for its rows to be read -/
def VK (w sp mo : Nat) (ats ens : Nat → Nat) (runs k : Nat) : Prop := k < mo ∧ ats k < 2 ^ 31 ∧ ens k < 2 ^ 31 ∧ (ats k < ens k → if k + 1 = runs then ats k < w else ats k < sp)
theorem hasB_some {ats ens : Nat → Nat} {o : Option Nat} (h : hasB ats ens o = true) : ∃ k, o = some k ∧ ats k < ens k := by
  cases o with
  | none => exact absurd h (by simp [hasB])
  | some k => exact ⟨k, rfl, of_decide_eq_true h⟩
theorem nI_m1 {k : Nat} (h : k < 2 ^ 31) : ¬ nI k = -1 := fun z => by
  have h1 := nI_toInt h
  rw [z] at h1
  have h2 : (-1 : Int32).toInt = -1 := by decide
  omega
theorem nI_min {a b : Nat} (ha : a < 2 ^ 31) (hb : b < 2 ^ 31) : (if nI b < nI a then nI b else nI a) = nI (min a b) := by
  by_cases h : b < a
  · rw [if_pos ((nI_ltI hb ha).mpr h), Nat.min_eq_right (by omega)]
  · rw [if_neg (fun z => h ((nI_ltI hb ha).mp z)), Nat.min_eq_left (by omega)]
theorem pkf_1 {ats ens : Nat → Nat} {kf : Nat → Int32} {o1 o2 : Option Nat} (h1 : hasB ats ens o1 = true) (h2 : hasB ats ens o2 = false) : pickF ats ens kf o1 o2 = o1 := by
  unfold pickF; rw [if_neg (fun z => by rw [h2] at z; exact absurd z.2 (by decide)), if_pos h1]
theorem pkf_2 {ats ens : Nat → Nat} {kf : Nat → Int32} {o1 o2 : Option Nat} (h1 : hasB ats ens o1 = false) (h2 : hasB ats ens o2 = true) : pickF ats ens kf o1 o2 = o2 := by
  unfold pickF; rw [if_neg (fun z => by rw [h1] at z; exact absurd z.1 (by decide)), if_neg (by rw [h1]; decide), if_pos h2]
theorem pkf_3 {ats ens : Nat → Nat} {kf : Nat → Int32} {o1 o2 : Option Nat} (h1 : hasB ats ens o1 = false) (h2 : hasB ats ens o2 = false) : pickF ats ens kf o1 o2 = none := by
  unfold pickF; rw [if_neg (fun z => by rw [h1] at z; exact absurd z.1 (by decide)), if_neg (by rw [h1]; decide), if_neg (by rw [h2]; decide)]
theorem pkf_e {ats ens : Nat → Nat} {kf : Nat → Int32} {a b : Nat} (h1 : hasB ats ens (some a) = true) (h2 : hasB ats ens (some b) = true) (h : kf a = kf b) : pickF ats ens kf (some a) (some b) = some (min a b) := by
  unfold pickF; rw [if_pos ⟨h1, h2⟩]; simp only []; rw [if_pos h]
theorem pkf_l {ats ens : Nat → Nat} {kf : Nat → Int32} {a b : Nat} (h1 : hasB ats ens (some a) = true) (h2 : hasB ats ens (some b) = true) (h : ¬ kf a = kf b) (h3 : ¬ kf b ≤ kf a) : pickF ats ens kf (some a) (some b) = some a := by
  unfold pickF; rw [if_pos ⟨h1, h2⟩]; simp only []; rw [if_neg h, if_pos (Int32.not_le.mp h3)]
theorem pkf_g {ats ens : Nat → Nat} {kf : Nat → Int32} {a b : Nat} (h1 : hasB ats ens (some a) = true) (h2 : hasB ats ens (some b) = true) (h : ¬ kf a = kf b) (h3 : kf b ≤ kf a) : pickF ats ens kf (some a) (some b) = some b := by
  unfold pickF; rw [if_pos ⟨h1, h2⟩]; simp only []; rw [if_neg h, if_neg (Int32.not_lt.mpr h3)]
set_option maxHeartbeats 4000000 in
set_option maxRecDepth 100000 in
theorem c_ES_hasRow {o1 : Option Nat} (ho : ∀ k, o1 = some k → k < mo ∧ ats k < 2 ^ 31 ∧ ens k < 2 ^ 31) (hmo : mo ≤ 2001) : MetI l y_ES_hasRow b_ES_hasRow 2 (some .boolean) (rmF 0 0) D (tyL cI cZ cJ) [.ref (q 0), .int (wI o1)] (esW cI q w sp mo wl fk fv fp sk sv ats ens wn held spilled fed sealed runs size consumed current key value many sum least greatest) sz (fun r (_ : Unit) => r = bI (hasB ats ens o1)) (fun _ => esW cI q w sp mo wl fk fv fp sk sv ats ens wn held spilled fed sealed runs size consumed current key value many sum least greatest) := by
  refine MetI.of (by decide) (Nat.le_of_ble_eq_true rfl) ?_
  intro p e s m below meth c A ls C hnm hA hw hl
  have hx := C.1.1
  have hb := C.1.2.1
  have hl : lv_has ls 2 [(0, .ref (q 0)), (1, .int (wI o1))] := hl
  cases o1 with
  | none =>
    refine lv_iload_n hx hb d_ES_hasRow_0 rfl (lv_at hl 1 rfl) ?_
    refine lv_iconst (v := (-1)) hx hb d_ES_hasRow_1 (by decide) ?_
    refine lv_icmp_eq (tgt := 24) hx hb d_ES_hasRow_2 (by decide) (fun h2 => ?_) (fun h2 => ?_)
    · refine lv_iconst (v := bI false) hx hb d_ES_hasRow_24 (by decide) ?_
      exact zr_zret C () rfl (bI_nar _) hw d_ES_hasRow_25
    · exact absurd rfl h2
  | some k =>
    have hk := ho k rfl
    have hl : lv_has ls 2 [(0, .ref (q 0)), (1, .int (nI k))] := hl
    refine lv_iload_n hx hb d_ES_hasRow_0 rfl (lv_at hl 1 rfl) ?_
    refine lv_iconst (v := (-1)) hx hb d_ES_hasRow_1 (by decide) ?_
    refine lv_icmp_eq (tgt := 24) hx hb d_ES_hasRow_2 (by decide) (fun h2 => ?_) (fun h2 => ?_)
    · exact absurd h2 (nI_m1 (by omega))
    · refine lv_aload_n hx hb d_ES_hasRow_5 rfl (lv_at hl 0 rfl) ?_
      refine es_get C hw rfl lk_ES_11 rfl d_ES_hasRow_6 ?_
      refine lv_iload_n hx hb d_ES_hasRow_9 rfl (lv_at hl 1 rfl) ?_
      refine zr_ald C hw 6 0 rfl rfl (by omega) (by omega) (v := nI (ats k)) rfl d_ES_hasRow_10 ?_
      refine lv_aload_n hx hb d_ES_hasRow_11 rfl (lv_at hl 0 rfl) ?_
      refine es_get C hw rfl lk_ES_12 rfl d_ES_hasRow_12 ?_
      refine lv_iload_n hx hb d_ES_hasRow_15 rfl (lv_at hl 1 rfl) ?_
      refine zr_ald C hw 7 0 rfl rfl (by omega) (by omega) (v := nI (ens k)) rfl d_ES_hasRow_16 ?_
      refine zr_cge hx hb hk.2.1 hk.2.2 (tgt := 24) d_ES_hasRow_17 (by decide) (fun h17 => ?_) (fun h17 => ?_)
      · refine lv_iconst (v := bI false) hx hb d_ES_hasRow_24 (by decide) ?_
        exact zr_zret C () (congrArg bI (by first | exact (decide_eq_true h17).symm | exact (decide_eq_false (Nat.not_lt.mpr h17)).symm)) (bI_nar _) hw d_ES_hasRow_25
      · refine lv_iconst (v := bI true) hx hb d_ES_hasRow_20 (by decide) ?_
        refine lv_goto (tgt := 25) hx hb d_ES_hasRow_21 (by decide) ?_
        exact zr_zret C () (congrArg bI (by first | exact (decide_eq_true h17).symm | exact (decide_eq_false (Nat.not_lt.mpr h17)).symm)) (bI_nar _) hw d_ES_hasRow_25
set_option maxHeartbeats 4000000 in
set_option maxRecDepth 100000 in
theorem c_ES_keyOf {k : Nat} (hk : k < mo) (hi : if k + 1 = runs then ats k < w else ats k < sp) (hr0 : 0 < runs) (hr : runs ≤ 2001) (hmo : mo ≤ 2001) (hwb : w ≤ 64) (hsp : sp ≤ 2000) : MetI l y_ES_keyOf b_ES_keyOf 2 (some .int) (rmF 0 0) D (tyL cI cZ cJ) [.ref (q 0), .int (nI k)] (esW cI q w sp mo wl fk fv fp sk sv ats ens wn held spilled fed sealed runs size consumed current key value many sum least greatest) sz (fun r (_ : Unit) => r = kfF fk sk ats runs k) (fun _ => esW cI q w sp mo wl fk fv fp sk sv ats ens wn held spilled fed sealed runs size consumed current key value many sum least greatest) := by
  refine MetI.of (by decide) (Nat.le_of_ble_eq_true rfl) ?_
  intro p e s m below meth c A ls C hnm hA hw hl
  have hx := C.1.1
  have hb := C.1.2.1
  have hl : lv_has ls 2 [(0, .ref (q 0)), (1, .int (nI k))] := hl
  refine lv_iload_n hx hb d_ES_keyOf_0 rfl (lv_at hl 1 rfl) ?_
  refine lv_aload_n hx hb d_ES_keyOf_1 rfl (lv_at hl 0 rfl) ?_
  refine es_get C hw rfl lk_ES_13 rfl d_ES_keyOf_2 ?_
  refine lv_iconst (v := nI 1) hx hb d_ES_keyOf_5 (by decide) ?_
  refine zr_sub hx hb (by omega) d_ES_keyOf_6 ?_
  refine zr_cne hx hb (by omega) (by omega) (tgt := 24) d_ES_keyOf_7 (by decide) (fun h7 => ?_) (fun h7 => ?_)
  · refine lv_aload_n hx hb d_ES_keyOf_24 rfl (lv_at hl 0 rfl) ?_
    refine es_get C hw rfl lk_ES_6 rfl d_ES_keyOf_25 ?_
    refine lv_aload_n hx hb d_ES_keyOf_28 rfl (lv_at hl 0 rfl) ?_
    refine es_get C hw rfl lk_ES_11 rfl d_ES_keyOf_29 ?_
    refine lv_iload_n hx hb d_ES_keyOf_32 rfl (lv_at hl 1 rfl) ?_
    refine zr_ald C hw 6 0 rfl rfl (by omega) (by omega) (v := nI (ats k)) rfl d_ES_keyOf_33 ?_
    refine zr_ald C hw 4 0 rfl rfl (by rw [if_neg (by omega)] at hi; exact hi) (by omega) (v := sk (ats k)) rfl d_ES_keyOf_34 ?_
    exact zr_iret C () (by unfold kfF; first | (rw [if_pos (by omega)]; done) | (rw [if_neg (by omega)]; done)) hw d_ES_keyOf_35
  · refine lv_aload_n hx hb d_ES_keyOf_10 rfl (lv_at hl 0 rfl) ?_
    refine es_get C hw rfl lk_ES_2 rfl d_ES_keyOf_11 ?_
    refine lv_aload_n hx hb d_ES_keyOf_14 rfl (lv_at hl 0 rfl) ?_
    refine es_get C hw rfl lk_ES_11 rfl d_ES_keyOf_15 ?_
    refine lv_iload_n hx hb d_ES_keyOf_18 rfl (lv_at hl 1 rfl) ?_
    refine zr_ald C hw 6 0 rfl rfl (by omega) (by omega) (v := nI (ats k)) rfl d_ES_keyOf_19 ?_
    refine zr_ald C hw 1 0 rfl rfl (by rw [if_pos (by omega)] at hi; exact hi) (by omega) (v := fk (ats k)) rfl d_ES_keyOf_20 ?_
    refine lv_goto (tgt := 35) hx hb d_ES_keyOf_21 (by decide) ?_
    exact zr_iret C () (by unfold kfF; first | (rw [if_pos (by omega)]; done) | (rw [if_neg (by omega)]; done)) hw d_ES_keyOf_35
set_option maxHeartbeats 4000000 in
set_option maxRecDepth 100000 in
theorem c_ES_valueOf {k : Nat} (hk : k < mo) (hi : if k + 1 = runs then ats k < w else ats k < sp) (hr0 : 0 < runs) (hr : runs ≤ 2001) (hmo : mo ≤ 2001) (hwb : w ≤ 64) (hsp : sp ≤ 2000) : MetI l y_ES_valueOf b_ES_valueOf 2 (some .int) (rmF 0 0) D (tyL cI cZ cJ) [.ref (q 0), .int (nI k)] (esW cI q w sp mo wl fk fv fp sk sv ats ens wn held spilled fed sealed runs size consumed current key value many sum least greatest) sz (fun r (_ : Unit) => r = kfF fv sv ats runs k) (fun _ => esW cI q w sp mo wl fk fv fp sk sv ats ens wn held spilled fed sealed runs size consumed current key value many sum least greatest) := by
  refine MetI.of (by decide) (Nat.le_of_ble_eq_true rfl) ?_
  intro p e s m below meth c A ls C hnm hA hw hl
  have hx := C.1.1
  have hb := C.1.2.1
  have hl : lv_has ls 2 [(0, .ref (q 0)), (1, .int (nI k))] := hl
  refine lv_iload_n hx hb d_ES_valueOf_0 rfl (lv_at hl 1 rfl) ?_
  refine lv_aload_n hx hb d_ES_valueOf_1 rfl (lv_at hl 0 rfl) ?_
  refine es_get C hw rfl lk_ES_13 rfl d_ES_valueOf_2 ?_
  refine lv_iconst (v := nI 1) hx hb d_ES_valueOf_5 (by decide) ?_
  refine zr_sub hx hb (by omega) d_ES_valueOf_6 ?_
  refine zr_cne hx hb (by omega) (by omega) (tgt := 24) d_ES_valueOf_7 (by decide) (fun h7 => ?_) (fun h7 => ?_)
  · refine lv_aload_n hx hb d_ES_valueOf_24 rfl (lv_at hl 0 rfl) ?_
    refine es_get C hw rfl lk_ES_7 rfl d_ES_valueOf_25 ?_
    refine lv_aload_n hx hb d_ES_valueOf_28 rfl (lv_at hl 0 rfl) ?_
    refine es_get C hw rfl lk_ES_11 rfl d_ES_valueOf_29 ?_
    refine lv_iload_n hx hb d_ES_valueOf_32 rfl (lv_at hl 1 rfl) ?_
    refine zr_ald C hw 6 0 rfl rfl (by omega) (by omega) (v := nI (ats k)) rfl d_ES_valueOf_33 ?_
    refine zr_ald C hw 5 0 rfl rfl (by rw [if_neg (by omega)] at hi; exact hi) (by omega) (v := sv (ats k)) rfl d_ES_valueOf_34 ?_
    exact zr_iret C () (by unfold kfF; first | (rw [if_pos (by omega)]; done) | (rw [if_neg (by omega)]; done)) hw d_ES_valueOf_35
  · refine lv_aload_n hx hb d_ES_valueOf_10 rfl (lv_at hl 0 rfl) ?_
    refine es_get C hw rfl lk_ES_3 rfl d_ES_valueOf_11 ?_
    refine lv_aload_n hx hb d_ES_valueOf_14 rfl (lv_at hl 0 rfl) ?_
    refine es_get C hw rfl lk_ES_11 rfl d_ES_valueOf_15 ?_
    refine lv_iload_n hx hb d_ES_valueOf_18 rfl (lv_at hl 1 rfl) ?_
    refine zr_ald C hw 6 0 rfl rfl (by omega) (by omega) (v := nI (ats k)) rfl d_ES_valueOf_19 ?_
    refine zr_ald C hw 2 0 rfl rfl (by rw [if_pos (by omega)] at hi; exact hi) (by omega) (v := fv (ats k)) rfl d_ES_valueOf_20 ?_
    refine lv_goto (tgt := 35) hx hb d_ES_valueOf_21 (by decide) ?_
    exact zr_iret C () (by unfold kfF; first | (rw [if_pos (by omega)]; done) | (rw [if_neg (by omega)]; done)) hw d_ES_valueOf_35
set_option maxHeartbeats 4000000 in
set_option maxRecDepth 100000 in
theorem c_ES_top (h1 : 1 < wl) (hwl : wl ≤ 4096) : MetI l y_ES_top b_ES_top 1 (some .int) (rmF 0 0) D (tyL cI cZ cJ) [.ref (q 0)] (esW cI q w sp mo wl fk fv fp sk sv ats ens wn held spilled fed sealed runs size consumed current key value many sum least greatest) sz (fun r (_ : Unit) => r = wI (wn 1)) (fun _ => esW cI q w sp mo wl fk fv fp sk sv ats ens wn held spilled fed sealed runs size consumed current key value many sum least greatest) := by
  refine MetI.of (by decide) (Nat.le_of_ble_eq_true rfl) ?_
  intro p e s m below meth c A ls C hnm hA hw hl
  have hx := C.1.1
  have hb := C.1.2.1
  have hl : lv_has ls 1 [(0, .ref (q 0))] := hl
  refine lv_aload_n hx hb d_ES_top_0 rfl (lv_at hl 0 rfl) ?_
  refine es_get C hw rfl lk_ES_14 rfl d_ES_top_1 ?_
  refine lv_iconst (v := nI 1) hx hb d_ES_top_4 (by decide) ?_
  refine zr_ald C hw 8 0 rfl rfl (by omega) (by omega) (v := wI (wn 1)) rfl d_ES_top_5 ?_
  exact zr_iret C () rfl hw d_ES_top_6
theorem h_ES_hasRow : y_ES_hasRow.cls ≠ "java/lang/invoke/MethodHandle" ∧ y_ES_hasRow.cls ≠ "java/lang/invoke/VarHandle" ∧ (parseMethodDescriptor y_ES_hasRow.desc).map (fun d => d.parameters.length) = some 1 := by decide +kernel
theorem g_ES_ES_hasRow : GoodIn tb (wsV R_ES 95 y_ES_hasRow.cls y_ES_hasRow (wd y_ES_hasRow b_ES_hasRow 2 (some .boolean))) := gd_V (by decide +kernel)
theorem h_ES_keyOf : y_ES_keyOf.cls ≠ "java/lang/invoke/MethodHandle" ∧ y_ES_keyOf.cls ≠ "java/lang/invoke/VarHandle" ∧ (parseMethodDescriptor y_ES_keyOf.desc).map (fun d => d.parameters.length) = some 1 := by decide +kernel
theorem g_ES_ES_keyOf : GoodIn tb (wsV R_ES 99 y_ES_keyOf.cls y_ES_keyOf (wd y_ES_keyOf b_ES_keyOf 2 (some .int))) := gd_V (by decide +kernel)
theorem h_ES_valueOf : y_ES_valueOf.cls ≠ "java/lang/invoke/MethodHandle" ∧ y_ES_valueOf.cls ≠ "java/lang/invoke/VarHandle" ∧ (parseMethodDescriptor y_ES_valueOf.desc).map (fun d => d.parameters.length) = some 1 := by decide +kernel
theorem g_ES_ES_valueOf : GoodIn tb (wsV R_ES 120 y_ES_valueOf.cls y_ES_valueOf (wd y_ES_valueOf b_ES_valueOf 2 (some .int))) := gd_V (by decide +kernel)
theorem h_ES_top : y_ES_top.cls ≠ "java/lang/invoke/MethodHandle" ∧ y_ES_top.cls ≠ "java/lang/invoke/VarHandle" ∧ (parseMethodDescriptor y_ES_top.desc).map (fun d => d.parameters.length) = some 0 := by decide +kernel
theorem g_ES_ES_top : GoodIn tb (wsV R_ES 113 y_ES_top.cls y_ES_top (wd y_ES_top b_ES_top 1 (some .int))) := gd_V (by decide +kernel)
set_option maxHeartbeats 4000000 in
set_option maxRecDepth 100000 in
theorem c_ES_first {o1 o2 : Option Nat} (ho1 : ∀ k, o1 = some k → VK w sp mo ats ens runs k) (ho2 : ∀ k, o2 = some k → VK w sp mo ats ens runs k) (hr0 : 0 < runs) (hr : runs ≤ 2001) (hmo : mo ≤ 2001) (hwb : w ≤ 64) (hsp : sp ≤ 2000) : MetI l y_ES_first b_ES_first 5 (some .int) (rmF 1 21) D (tyL cI cZ cJ) [.ref (q 0), .int (wI o1), .int (wI o2)] (esW cI q w sp mo wl fk fv fp sk sv ats ens wn held spilled fed sealed runs size consumed current key value many sum least greatest) sz (fun r (_ : Unit) => r = wI (pickF ats ens (kfF fk sk ats runs) o1 o2)) (fun _ => esW cI q w sp mo wl fk fv fp sk sv ats ens wn held spilled fed sealed runs size consumed current key value many sum least greatest) := by
  refine MetI.of (by decide) (Nat.le_of_ble_eq_true rfl) ?_
  intro p e s m below meth c A ls C hnm hA hw hl
  have hx := C.1.1
  have hb := C.1.2.1
  have hl : lv_has ls 5 [(0, .ref (q 0)), (1, .int (wI o1)), (2, .int (wI o2))] := hl
  refine lv_aload_n hx hb d_ES_first_0 rfl (lv_at hl 0 rfl) ?_
  refine lv_iload_n hx hb d_ES_first_1 rfl (lv_at hl 1 rfl) ?_
  refine zr_calli0 (As := [.int (wI o1)]) (rest := []) C hA hw hl.1 g_ES_ES_hasRow (c_ES_hasRow (fun k h => ⟨(ho1 k h).1, (ho1 k h).2.1, (ho1 k h).2.2.1⟩) hmo) h_ES_hasRow ⟨Nat.le_of_ble_eq_true rfl, Nat.le_of_ble_eq_true rfl⟩ rfl rfl rfl (Nat.le_of_ble_eq_true rfl) d_ES_first_2 ⟨rfl, rfl⟩ ⟨Nat.zero_le _, Nat.zero_le _⟩ (fun r u H locs hres hw => ?_)
  have hw : Wd D (tyL cI cZ cJ) A s H locs (esW cI q w sp mo wl fk fv fp sk sv ats ens wn held spilled fed sealed runs size consumed current key value many sum least greatest) := hw
  refine zr_top (y := bI (hasB ats ens o1)) hres ?_
  refine zr_beq hx hb (tgt := 16) d_ES_first_5 (by decide) (fun h5 => ?_) (fun h5 => ?_)
  · refine lv_aload_n hx hb d_ES_first_16 rfl (lv_at hl 0 rfl) ?_
    refine lv_iload_n hx hb d_ES_first_17 rfl (lv_at hl 1 rfl) ?_
    refine zr_calli0 (As := [.int (wI o1)]) (rest := []) C hA hw hl.1 g_ES_ES_hasRow (c_ES_hasRow (fun k h => ⟨(ho1 k h).1, (ho1 k h).2.1, (ho1 k h).2.2.1⟩) hmo) h_ES_hasRow ⟨Nat.le_of_ble_eq_true rfl, Nat.le_of_ble_eq_true rfl⟩ rfl rfl rfl (Nat.le_of_ble_eq_true rfl) d_ES_first_18 ⟨rfl, rfl⟩ ⟨Nat.zero_le _, Nat.zero_le _⟩ (fun r u H locs hres hw => ?_)
    have hw : Wd D (tyL cI cZ cJ) A s H locs (esW cI q w sp mo wl fk fv fp sk sv ats ens wn held spilled fed sealed runs size consumed current key value many sum least greatest) := hw
    refine zr_top (y := bI (hasB ats ens o1)) hres ?_
    refine zr_beq hx hb (tgt := 28) d_ES_first_21 (by decide) (fun h21 => ?_) (fun h21 => ?_)
    · refine lv_aload_n hx hb d_ES_first_28 rfl (lv_at hl 0 rfl) ?_
      refine lv_iload_n hx hb d_ES_first_29 rfl (lv_at hl 2 rfl) ?_
      refine zr_calli0 (As := [.int (wI o2)]) (rest := []) C hA hw hl.1 g_ES_ES_hasRow (c_ES_hasRow (fun k h => ⟨(ho2 k h).1, (ho2 k h).2.1, (ho2 k h).2.2.1⟩) hmo) h_ES_hasRow ⟨Nat.le_of_ble_eq_true rfl, Nat.le_of_ble_eq_true rfl⟩ rfl rfl rfl (Nat.le_of_ble_eq_true rfl) d_ES_first_30 ⟨rfl, rfl⟩ ⟨Nat.zero_le _, Nat.zero_le _⟩ (fun r u H locs hres hw => ?_)
      have hw : Wd D (tyL cI cZ cJ) A s H locs (esW cI q w sp mo wl fk fv fp sk sv ats ens wn held spilled fed sealed runs size consumed current key value many sum least greatest) := hw
      refine zr_top (y := bI (hasB ats ens o2)) hres ?_
      refine zr_beq hx hb (tgt := 40) d_ES_first_33 (by decide) (fun h33 => ?_) (fun h33 => ?_)
      · refine lv_iconst (v := wI none) hx hb d_ES_first_40 (by decide) ?_
        exact zr_iret C () (congrArg wI (by first | exact (pkf_1 h5 h13).symm | exact (pkf_2 h5 h33).symm | exact (pkf_3 h5 h33).symm | exact absurd (h5.symm.trans h21) (by decide))) hw d_ES_first_41
      · refine lv_iload_n hx hb d_ES_first_36 rfl (lv_at hl 2 rfl) ?_
        refine lv_goto (tgt := 41) hx hb d_ES_first_37 (by decide) ?_
        exact zr_iret C () (congrArg wI (by first | exact (pkf_1 h5 h13).symm | exact (pkf_2 h5 h33).symm | exact (pkf_3 h5 h33).symm | exact absurd (h5.symm.trans h21) (by decide))) hw d_ES_first_41
    · refine lv_iload_n hx hb d_ES_first_24 rfl (lv_at hl 1 rfl) ?_
      refine lv_goto (tgt := 41) hx hb d_ES_first_25 (by decide) ?_
      exact zr_iret C () (congrArg wI (by first | exact (pkf_1 h5 h13).symm | exact (pkf_2 h5 h33).symm | exact (pkf_3 h5 h33).symm | exact absurd (h5.symm.trans h21) (by decide))) hw d_ES_first_41
  · refine lv_aload_n hx hb d_ES_first_8 rfl (lv_at hl 0 rfl) ?_
    refine lv_iload_n hx hb d_ES_first_9 rfl (lv_at hl 2 rfl) ?_
    refine zr_calli0 (As := [.int (wI o2)]) (rest := []) C hA hw hl.1 g_ES_ES_hasRow (c_ES_hasRow (fun k h => ⟨(ho2 k h).1, (ho2 k h).2.1, (ho2 k h).2.2.1⟩) hmo) h_ES_hasRow ⟨Nat.le_of_ble_eq_true rfl, Nat.le_of_ble_eq_true rfl⟩ rfl rfl rfl (Nat.le_of_ble_eq_true rfl) d_ES_first_10 ⟨rfl, rfl⟩ ⟨Nat.zero_le _, Nat.zero_le _⟩ (fun r u H locs hres hw => ?_)
    have hw : Wd D (tyL cI cZ cJ) A s H locs (esW cI q w sp mo wl fk fv fp sk sv ats ens wn held spilled fed sealed runs size consumed current key value many sum least greatest) := hw
    refine zr_top (y := bI (hasB ats ens o2)) hres ?_
    refine zr_bne hx hb (tgt := 42) d_ES_first_13 (by decide) (fun h13 => ?_) (fun h13 => ?_)
    · obtain ⟨k1, rfl, hk1⟩ := hasB_some h5
      obtain ⟨k2, rfl, hk2⟩ := hasB_some h13
      have v1 := ho1 k1 rfl
      have v2 := ho2 k2 rfl
      have hl : lv_has ls 5 [(0, .ref (q 0)), (1, .int (nI k1)), (2, .int (nI k2))] := hl
      refine lv_aload_n hx hb d_ES_first_42 rfl (lv_at hl 0 rfl) ?_
      refine lv_iload_n hx hb d_ES_first_43 rfl (lv_at hl 1 rfl) ?_
      refine zr_calli0 (As := [.int (nI k1)]) (rest := []) C hA hw hl.1 g_ES_ES_keyOf (c_ES_keyOf v1.1 (v1.2.2.2 hk1) hr0 hr hmo hwb hsp) h_ES_keyOf ⟨Nat.le_of_ble_eq_true rfl, Nat.le_of_ble_eq_true rfl⟩ rfl rfl rfl (Nat.le_of_ble_eq_true rfl) d_ES_first_44 ⟨rfl, rfl⟩ ⟨Nat.zero_le _, Nat.zero_le _⟩ (fun r u H locs hres hw => ?_)
      have hw : Wd D (tyL cI cZ cJ) A s H locs (esW cI q w sp mo wl fk fv fp sk sv ats ens wn held spilled fed sealed runs size consumed current key value many sum least greatest) := hw
      refine zr_top (y := kfF fk sk ats runs k1) hres ?_
      refine lv_istore_n (lv' := [(3, .int (kfF fk sk ats runs k1)), (0, .ref (q 0)), (1, .int (nI k1)), (2, .int (nI k2))]) hx hb d_ES_first_47 rfl hl (by decide) rfl (fun ls hl => ?_)
      refine lv_aload_n hx hb d_ES_first_48 rfl (lv_at hl 1 rfl) ?_
      refine lv_iload_n hx hb d_ES_first_49 rfl (lv_at hl 3 rfl) ?_
      refine zr_calli0 (As := [.int (nI k2)]) (rest := []) C hA hw hl.1 g_ES_ES_keyOf (c_ES_keyOf v2.1 (v2.2.2.2 hk2) hr0 hr hmo hwb hsp) h_ES_keyOf ⟨Nat.le_of_ble_eq_true rfl, Nat.le_of_ble_eq_true rfl⟩ rfl rfl rfl (Nat.le_of_ble_eq_true rfl) d_ES_first_50 ⟨rfl, rfl⟩ ⟨Nat.zero_le _, Nat.zero_le _⟩ (fun r u H locs hres hw => ?_)
      have hw : Wd D (tyL cI cZ cJ) A s H locs (esW cI q w sp mo wl fk fv fp sk sv ats ens wn held spilled fed sealed runs size consumed current key value many sum least greatest) := hw
      refine zr_top (y := kfF fk sk ats runs k2) hres ?_
      refine lv_istore (lv' := [(4, .int (kfF fk sk ats runs k2)), (3, .int (kfF fk sk ats runs k1)), (0, .ref (q 0)), (1, .int (nI k1)), (2, .int (nI k2))]) hx hb d_ES_first_53 hl (by decide) rfl (fun ls hl => ?_)
      refine lv_iload_n hx hb d_ES_first_55 rfl (lv_at hl 1 rfl) ?_
      refine lv_iload hx hb d_ES_first_56 (lv_at hl 0 rfl) ?_
      refine lv_icmp_eq (tgt := 75) hx hb d_ES_first_58 (by decide) (fun h58 => ?_) (fun h58 => ?_)
      · refine lv_iload_n hx hb d_ES_first_75 rfl (lv_at hl 3 rfl) ?_
        refine lv_iload_n hx hb d_ES_first_76 rfl (lv_at hl 4 rfl) ?_
        refine zr_min C hl.1 (Nat.le_of_ble_eq_true rfl) (Nat.le_of_ble_eq_true rfl) (Nat.le_refl _) (Nat.le_refl _) d_ES_first_77 ?_
        refine zr_top (y := nI (min k1 k2)) (nI_min (by have := v1.1; omega) (by have := v2.1; omega)) ?_
        exact zr_iret C () (by first | exact (congrArg wI (pkf_e h5 h13 h58)).symm | exact (congrArg wI (pkf_l h5 h13 h58 h64)).symm | exact (congrArg wI (pkf_g h5 h13 h58 h64)).symm) hw d_ES_first_80
      · refine lv_iload_n hx hb d_ES_first_61 rfl (lv_at hl 1 rfl) ?_
        refine lv_iload hx hb d_ES_first_62 (lv_at hl 0 rfl) ?_
        refine lv_icmp_ge (tgt := 71) hx hb d_ES_first_64 (by decide) (fun h64 => ?_) (fun h64 => ?_)
        · refine lv_iload_n hx hb d_ES_first_71 rfl (lv_at hl 4 rfl) ?_
          refine lv_goto (tgt := 80) hx hb d_ES_first_72 (by decide) ?_
          exact zr_iret C () (by first | exact (congrArg wI (pkf_e h5 h13 h58)).symm | exact (congrArg wI (pkf_l h5 h13 h58 h64)).symm | exact (congrArg wI (pkf_g h5 h13 h58 h64)).symm) hw d_ES_first_80
        · refine lv_iload_n hx hb d_ES_first_67 rfl (lv_at hl 3 rfl) ?_
          refine lv_goto (tgt := 80) hx hb d_ES_first_68 (by decide) ?_
          exact zr_iret C () (by first | exact (congrArg wI (pkf_e h5 h13 h58)).symm | exact (congrArg wI (pkf_l h5 h13 h58 h64)).symm | exact (congrArg wI (pkf_g h5 h13 h58 h64)).symm) hw d_ES_first_80
    · refine lv_aload_n hx hb d_ES_first_16 rfl (lv_at hl 0 rfl) ?_
      refine lv_iload_n hx hb d_ES_first_17 rfl (lv_at hl 1 rfl) ?_
      refine zr_calli0 (As := [.int (wI o1)]) (rest := []) C hA hw hl.1 g_ES_ES_hasRow (c_ES_hasRow (fun k h => ⟨(ho1 k h).1, (ho1 k h).2.1, (ho1 k h).2.2.1⟩) hmo) h_ES_hasRow ⟨Nat.le_of_ble_eq_true rfl, Nat.le_of_ble_eq_true rfl⟩ rfl rfl rfl (Nat.le_of_ble_eq_true rfl) d_ES_first_18 ⟨rfl, rfl⟩ ⟨Nat.zero_le _, Nat.zero_le _⟩ (fun r u H locs hres hw => ?_)
      have hw : Wd D (tyL cI cZ cJ) A s H locs (esW cI q w sp mo wl fk fv fp sk sv ats ens wn held spilled fed sealed runs size consumed current key value many sum least greatest) := hw
      refine zr_top (y := bI (hasB ats ens o1)) hres ?_
      refine zr_beq hx hb (tgt := 28) d_ES_first_21 (by decide) (fun h21 => ?_) (fun h21 => ?_)
      · refine lv_aload_n hx hb d_ES_first_28 rfl (lv_at hl 0 rfl) ?_
        refine lv_iload_n hx hb d_ES_first_29 rfl (lv_at hl 2 rfl) ?_
        refine zr_calli0 (As := [.int (wI o2)]) (rest := []) C hA hw hl.1 g_ES_ES_hasRow (c_ES_hasRow (fun k h => ⟨(ho2 k h).1, (ho2 k h).2.1, (ho2 k h).2.2.1⟩) hmo) h_ES_hasRow ⟨Nat.le_of_ble_eq_true rfl, Nat.le_of_ble_eq_true rfl⟩ rfl rfl rfl (Nat.le_of_ble_eq_true rfl) d_ES_first_30 ⟨rfl, rfl⟩ ⟨Nat.zero_le _, Nat.zero_le _⟩ (fun r u H locs hres hw => ?_)
        have hw : Wd D (tyL cI cZ cJ) A s H locs (esW cI q w sp mo wl fk fv fp sk sv ats ens wn held spilled fed sealed runs size consumed current key value many sum least greatest) := hw
        refine zr_top (y := bI (hasB ats ens o2)) hres ?_
        refine zr_beq hx hb (tgt := 40) d_ES_first_33 (by decide) (fun h33 => ?_) (fun h33 => ?_)
        · refine lv_iconst (v := wI none) hx hb d_ES_first_40 (by decide) ?_
          exact zr_iret C () (congrArg wI (by first | exact (pkf_1 h5 h13).symm | exact (pkf_2 h5 h33).symm | exact (pkf_3 h5 h33).symm | exact absurd (h5.symm.trans h21) (by decide))) hw d_ES_first_41
        · refine lv_iload_n hx hb d_ES_first_36 rfl (lv_at hl 2 rfl) ?_
          refine lv_goto (tgt := 41) hx hb d_ES_first_37 (by decide) ?_
          exact zr_iret C () (congrArg wI (by first | exact (pkf_1 h5 h13).symm | exact (pkf_2 h5 h33).symm | exact (pkf_3 h5 h33).symm | exact absurd (h5.symm.trans h21) (by decide))) hw d_ES_first_41
      · refine lv_iload_n hx hb d_ES_first_24 rfl (lv_at hl 1 rfl) ?_
        refine lv_goto (tgt := 41) hx hb d_ES_first_25 (by decide) ?_
        exact zr_iret C () (congrArg wI (by first | exact (pkf_1 h5 h13).symm | exact (pkf_2 h5 h33).symm | exact (pkf_3 h5 h33).symm | exact absurd (h5.symm.trans h21) (by decide))) hw d_ES_first_41
theorem h_ES_first : y_ES_first.cls ≠ "java/lang/invoke/MethodHandle" ∧ y_ES_first.cls ≠ "java/lang/invoke/VarHandle" ∧ (parseMethodDescriptor y_ES_first.desc).map (fun d => d.parameters.length) = some 2 := by decide +kernel
theorem g_ES_ES_first : GoodIn tb (wsV R_ES 103 y_ES_first.cls y_ES_first (wd y_ES_first b_ES_first 5 (some .int))) := gd_V (by decide +kernel)
set_option maxHeartbeats 4000000 in
set_option maxRecDepth 100000 in
theorem c_ES_play {nd : Nat} (hnd : 2 * nd + 1 < wl) (ho1 : ∀ k, wn (2 * nd) = some k → VK w sp mo ats ens runs k) (ho2 : ∀ k, wn (2 * nd + 1) = some k → VK w sp mo ats ens runs k) (hr0 : 0 < runs) (hr : runs ≤ 2001) (hmo : mo ≤ 2001) (hwb : w ≤ 64) (hsp : sp ≤ 2000) (hwl : wl ≤ 4096) : MetV l y_ES_play b_ES_play 2 (rmF 2 45) D (tyL cI cZ cJ) [.ref (q 0), .int (nI nd)] (esW cI q w sp mo wl fk fv fp sk sv ats ens wn held spilled fed sealed runs size consumed current key value many sum least greatest) sz (fun (_ : Unit) => True) (fun _ => esW cI q w sp mo wl fk fv fp sk sv ats ens (va_up wn nd (pickF ats ens (kfF fk sk ats runs) (wn (2 * nd)) (wn (2 * nd + 1)))) held spilled fed sealed runs size consumed current key value many sum least greatest) := by
  refine MetV.of (by decide) (Nat.le_of_ble_eq_true rfl) ?_
  intro p e s m below meth c A ls C hnm hA hw hl
  have hx := C.1.1
  have hb := C.1.2.1
  have hl : lv_has ls 2 [(0, .ref (q 0)), (1, .int (nI nd))] := hl
  refine lv_aload_n hx hb d_ES_play_0 rfl (lv_at hl 0 rfl) ?_
  refine es_get C hw rfl lk_ES_14 rfl d_ES_play_1 ?_
  refine lv_iload_n hx hb d_ES_play_4 rfl (lv_at hl 1 rfl) ?_
  refine lv_aload_n hx hb d_ES_play_5 rfl (lv_at hl 0 rfl) ?_
  refine lv_aload_n hx hb d_ES_play_6 rfl (lv_at hl 0 rfl) ?_
  refine es_get C hw rfl lk_ES_14 rfl d_ES_play_7 ?_
  refine lv_iconst (v := nI 2) hx hb d_ES_play_10 (by decide) ?_
  refine lv_iload_n hx hb d_ES_play_11 rfl (lv_at hl 1 rfl) ?_
  refine zr_mul hx hb d_ES_play_12 ?_
  refine zr_ald C hw 8 0 rfl rfl (by omega) (by omega) (v := wI (wn (2 * nd))) rfl d_ES_play_13 ?_
  refine lv_aload_n hx hb d_ES_play_14 rfl (lv_at hl 0 rfl) ?_
  refine es_get C hw rfl lk_ES_14 rfl d_ES_play_15 ?_
  refine lv_iconst (v := nI 2) hx hb d_ES_play_18 (by decide) ?_
  refine lv_iload_n hx hb d_ES_play_19 rfl (lv_at hl 1 rfl) ?_
  refine zr_mul hx hb d_ES_play_20 ?_
  refine lv_iconst (v := nI 1) hx hb d_ES_play_21 (by decide) ?_
  refine zr_add hx hb d_ES_play_22 ?_
  refine zr_ald C hw 8 0 rfl rfl (by omega) (by omega) (v := wI (wn ((2 * nd) + 1))) rfl d_ES_play_23 ?_
  refine zr_calli0 (As := [.int (wI (wn (2 * nd))), .int (wI (wn ((2 * nd) + 1)))]) (rest := [.int (nI nd), .ref (q 8)]) C hA hw hl.1 g_ES_ES_first (c_ES_first ho1 ho2 hr0 hr hmo hwb hsp) h_ES_first ⟨Nat.le_of_ble_eq_true rfl, Nat.le_of_ble_eq_true rfl⟩ rfl rfl rfl (Nat.le_of_ble_eq_true rfl) d_ES_play_24 ⟨rfl, rfl⟩ ⟨Nat.zero_le _, Nat.zero_le _⟩ (fun r u H locs hres hw => ?_)
  have hw : Wd D (tyL cI cZ cJ) A s H locs (esW cI q w sp mo wl fk fv fp sk sv ats ens wn held spilled fed sealed runs size consumed current key value many sum least greatest) := hw
  refine zr_top (y := wI (pickF ats ens (kfF fk sk ats runs) (wn (2 * nd)) (wn (2 * nd + 1)))) hres ?_
  refine zr_ast C hw 8 0 rfl rfl (by omega) (by omega) (upd_wA _ _ _) (W1 := esW cI q w sp mo wl fk fv fp sk sv ats ens (va_up wn nd (pickF ats ens (kfF fk sk ats runs) (wn (2 * nd)) (wn (2 * nd + 1)))) held spilled fed sealed runs size consumed current key value many sum least greatest) rfl d_ES_play_27 (fun H locs hw => ?_)
  exact zr_vret C () trivial hw d_ES_play_28
theorem h_ES_sort : y_ES_sort.cls ≠ "java/lang/invoke/MethodHandle" ∧ y_ES_sort.cls ≠ "java/lang/invoke/VarHandle" ∧ (parseMethodDescriptor y_ES_sort.desc).map (fun d => d.parameters.length) = some 0 := by decide +kernel
theorem g_ES_ES_sort : GoodIn tb (wsV R_ES 83 y_ES_sort.cls y_ES_sort (wd y_ES_sort b_ES_sort 2 none)) := gd_V (by decide +kernel)
/-- n entries of f laid over g from dp on -/
def cpf (f g : Nat → Int32) (dp n : Nat) : Nat → Int32 := fun k => if dp ≤ k ∧ k < dp + n then f (k - dp) else g k
theorem cpf_0 (f g : Nat → Int32) (dp : Nat) : cpf f g dp 0 = g := by funext k; unfold cpf; rw [if_neg (by omega)]
theorem cpf_s (f g : Nat → Int32) (dp n : Nat) : upd (cpf f g dp n) (dp + n) (f n) = cpf f g dp (n + 1) := by
  funext k
  simp only [upd, cpf]
  by_cases h : k = dp + n
  · rw [if_pos h, if_pos (by omega), h, Nat.add_sub_cancel_left]
  · rw [if_neg h]
    by_cases h2 : dp ≤ k ∧ k < dp + n
    · rw [if_pos h2, if_pos (by omega)]
    · rw [if_neg h2, if_neg (by omega)]
set_option maxHeartbeats 4000000 in
set_option maxRecDepth 100000 in
theorem lp_ES_spill {p : Program} {e : Env} {s : State} {m : MethodId} {args : Array Value} {below : List Frame} {meth : Method} {c : Code} {A : Nat → Prop} (C : Cx p m meth c b_ES_spill 2 none s args R_ES) (hA : ∀ q : Nat, s.heap.size ≤ q → A q) {Q : State → Prop} {gk gv gp : Nat → Int32} (hh : held ≤ w) (hwb : w ≤ 64) (hsh : spilled + held ≤ sp) (hsp : sp ≤ 2000) (KK : ∀ (H : Heap) (locs : List Loc) (ls : Array Slot), Wd D (tyL cI cZ cJ) A s H locs (esW cI q w sp mo wl gk gv gp (cpf gk sk spilled held) (cpf gv sv spilled held) ats ens wn held (spilled + held) fed sealed runs size consumed current key value many sum least greatest) → lv_has ls 2 [(0, .ref (q 0))] → W p l e (rmF 3 68) s m args below meth c H locs 0 0 Q (F0 m 73 ls [])) : ∀ (n i : Nat) (H : Heap) (locs : List Loc) (ls : Array Slot), i + n = held → Wd D (tyL cI cZ cJ) A s H locs (esW cI q w sp mo wl gk gv gp (cpf gk sk spilled i) (cpf gv sv spilled i) ats ens wn held (spilled + i) fed sealed runs size consumed current key value many sum least greatest) → lv_has ls 2 [(1, .int (nI i)), (0, .ref (q 0))] → W p l e (rmF 3 68) s m args below meth c H locs 0 0 Q (F0 m 19 ls []) := by
  have hx := C.1.1
  have hb := C.1.2.1
  intro n
  induction n with
  | zero =>
    intro i H locs ls hi hw hl
    have ei : i = held := hi
    subst ei
    refine lv_iload_n hx hb d_ES_spill_19 rfl (lv_at hl 0 rfl) ?_
    refine lv_aload_n hx hb d_ES_spill_20 rfl (lv_at hl 1 rfl) ?_
    refine es_get C hw rfl lk_ES_5 rfl d_ES_spill_21 ?_
    refine zr_cge hx hb (by omega) (by omega) (tgt := 73) d_ES_spill_24 (by decide) (fun h24 => ?_) (fun h24 => ?_)
    · exact KK H locs ls hw (lv_sub hl [1] rfl)
    · exact absurd h24 (by omega)
  | succ n ih =>
    intro i H locs ls hi hw hl
    refine lv_iload_n hx hb d_ES_spill_19 rfl (lv_at hl 0 rfl) ?_
    refine lv_aload_n hx hb d_ES_spill_20 rfl (lv_at hl 1 rfl) ?_
    refine es_get C hw rfl lk_ES_5 rfl d_ES_spill_21 ?_
    refine zr_cge hx hb (by omega) (by omega) (tgt := 73) d_ES_spill_24 (by decide) (fun h24 => ?_) (fun h24 => ?_)
    · exact absurd h24 (by omega)
    · refine lv_aload_n hx hb d_ES_spill_27 rfl (lv_at hl 1 rfl) ?_
      refine es_get C hw rfl lk_ES_6 rfl d_ES_spill_28 ?_
      refine lv_aload_n hx hb d_ES_spill_31 rfl (lv_at hl 1 rfl) ?_
      refine es_get C hw rfl lk_ES_8 rfl d_ES_spill_32 ?_
      refine lv_aload_n hx hb d_ES_spill_35 rfl (lv_at hl 1 rfl) ?_
      refine es_get C hw rfl lk_ES_2 rfl d_ES_spill_36 ?_
      refine lv_iload_n hx hb d_ES_spill_39 rfl (lv_at hl 0 rfl) ?_
      refine zr_ald C hw 1 0 rfl rfl (by omega) (by omega) (v := gk i) rfl d_ES_spill_40 ?_
      refine zr_ast C hw 4 0 rfl rfl (by omega) (by omega) (cpf_s gk sk spilled i) (W1 := esW cI q w sp mo wl gk gv gp (cpf gk sk spilled (i + 1)) (cpf gv sv spilled i) ats ens wn held (spilled + i) fed sealed runs size consumed current key value many sum least greatest) rfl d_ES_spill_41 (fun H locs hw => ?_)
      refine lv_aload_n hx hb d_ES_spill_42 rfl (lv_at hl 1 rfl) ?_
      refine es_get C hw rfl lk_ES_7 rfl d_ES_spill_43 ?_
      refine lv_aload_n hx hb d_ES_spill_46 rfl (lv_at hl 1 rfl) ?_
      refine es_get C hw rfl lk_ES_8 rfl d_ES_spill_47 ?_
      refine lv_aload_n hx hb d_ES_spill_50 rfl (lv_at hl 1 rfl) ?_
      refine es_get C hw rfl lk_ES_3 rfl d_ES_spill_51 ?_
      refine lv_iload_n hx hb d_ES_spill_54 rfl (lv_at hl 0 rfl) ?_
      refine zr_ald C hw 2 0 rfl rfl (by omega) (by omega) (v := gv i) rfl d_ES_spill_55 ?_
      refine zr_ast C hw 5 0 rfl rfl (by omega) (by omega) (cpf_s gv sv spilled i) (W1 := esW cI q w sp mo wl gk gv gp (cpf gk sk spilled (i + 1)) (cpf gv sv spilled (i + 1)) ats ens wn held (spilled + i) fed sealed runs size consumed current key value many sum least greatest) rfl d_ES_spill_56 (fun H locs hw => ?_)
      refine lv_aload_n hx hb d_ES_spill_57 rfl (lv_at hl 1 rfl) ?_
      refine lv_dup hx hb d_ES_spill_58 rfl ?_
      refine es_get C hw rfl lk_ES_8 rfl d_ES_spill_59 ?_
      refine lv_iconst (v := nI 1) hx hb d_ES_spill_62 (by decide) ?_
      refine zr_add hx hb d_ES_spill_63 ?_
      refine zr_top (y := nI (spilled + (i + 1))) rfl ?_
      refine es_put C hw rfl lk_ES_8 rfl rfl rfl (Nat.le_of_ble_eq_true rfl) (W1 := esW cI q w sp mo wl gk gv gp (cpf gk sk spilled (i + 1)) (cpf gv sv spilled (i + 1)) ats ens wn held (spilled + (i + 1)) fed sealed runs size consumed current key value many sum least greatest) rfl d_ES_spill_64 (fun H locs hw => ?_)
      refine lv_iinc (v := nI (i + 1)) (lv' := [(1, .int (nI (i + 1))), (0, .ref (q 0))]) hx hb d_ES_spill_67 hl (k := 0) rfl (nI_1 _) (by decide) rfl (fun ls hl => ?_)
      refine lv_goto (tgt := 19) hx hb d_ES_spill_70 (by decide) ?_
      exact ih (i + 1) H locs ls (by omega) hw hl
set_option maxHeartbeats 4000000 in
set_option maxRecDepth 100000 in
theorem c_ES_spill (hh : held ≤ w) (hw0 : 0 < w) (hwb : w ≤ 64) (hrm : runs < mo) (hmo : mo ≤ 2001) (hsh : spilled + held ≤ sp) (hsp : sp ≤ 2000) : MetV l y_ES_spill b_ES_spill 2 (rmF 3 68) D (tyL cI cZ cJ) [.ref (q 0)] (esW cI q w sp mo wl fk fv fp sk sv ats ens wn held spilled fed sealed runs size consumed current key value many sum least greatest) sz (fun (_ : Unit) => True) (fun _ => esW cI q w sp mo wl (fun z => fk (hsort (ltB fk fp) held z)) (fun z => fv (hsort (ltB fk fp) held z)) (fun z => fp (hsort (ltB fk fp) held z)) (cpf (fun z => fk (hsort (ltB fk fp) held z)) sk spilled held) (cpf (fun z => fv (hsort (ltB fk fp) held z)) sv spilled held) (va_up ats runs spilled) (va_up ens runs (spilled + held)) wn 0 (spilled + held) fed sealed (runs + 1) size consumed current key value many sum least greatest) := by
  refine MetV.of (by decide) (Nat.le_of_ble_eq_true rfl) ?_
  intro p e s m below meth c A ls C hnm hA hw hl
  have hx := C.1.1
  have hb := C.1.2.1
  have hl : lv_has ls 2 [(0, .ref (q 0))] := hl
  refine lv_aload_n hx hb d_ES_spill_0 rfl (lv_at hl 0 rfl) ?_
  refine zr_callv0 (As := []) (rest := []) C hA hw hl.1 g_ES_ES_sort (c_ES_sort hh hw0 hwb) h_ES_sort ⟨Nat.le_of_ble_eq_true rfl, Nat.le_of_ble_eq_true rfl⟩ rfl rfl rfl (Nat.le_of_ble_eq_true rfl) d_ES_spill_1 ⟨rfl, rfl⟩ ⟨Nat.zero_le _, Nat.zero_le _⟩ (fun u H locs hres hw => ?_)
  have hw : Wd D (tyL cI cZ cJ) A s H locs (esW cI q w sp mo wl (fun z => fk (hsort (ltB fk fp) held z)) (fun z => fv (hsort (ltB fk fp) held z)) (fun z => fp (hsort (ltB fk fp) held z)) sk sv ats ens wn held spilled fed sealed runs size consumed current key value many sum least greatest) := hw
  refine lv_aload_n hx hb d_ES_spill_4 rfl (lv_at hl 0 rfl) ?_
  refine es_get C hw rfl lk_ES_11 rfl d_ES_spill_5 ?_
  refine lv_aload_n hx hb d_ES_spill_8 rfl (lv_at hl 0 rfl) ?_
  refine es_get C hw rfl lk_ES_13 rfl d_ES_spill_9 ?_
  refine lv_aload_n hx hb d_ES_spill_12 rfl (lv_at hl 0 rfl) ?_
  refine es_get C hw rfl lk_ES_8 rfl d_ES_spill_13 ?_
  refine zr_ast C hw 6 0 rfl rfl (by omega) (by omega) (upd_nA _ _ _) (W1 := esW cI q w sp mo wl (fun z => fk (hsort (ltB fk fp) held z)) (fun z => fv (hsort (ltB fk fp) held z)) (fun z => fp (hsort (ltB fk fp) held z)) sk sv (va_up ats runs spilled) ens wn held spilled fed sealed runs size consumed current key value many sum least greatest) rfl d_ES_spill_16 (fun H locs hw => ?_)
  refine lv_iconst (v := nI 0) hx hb d_ES_spill_17 (by decide) ?_
  refine lv_istore_n (lv' := [(1, .int (nI 0)), (0, .ref (q 0))]) hx hb d_ES_spill_18 rfl hl (by decide) rfl (fun ls hl => ?_)
  have hw : Wd D (tyL cI cZ cJ) A s H locs (esW cI q w sp mo wl (fun z => fk (hsort (ltB fk fp) held z)) (fun z => fv (hsort (ltB fk fp) held z)) (fun z => fp (hsort (ltB fk fp) held z)) (cpf (fun z => fk (hsort (ltB fk fp) held z)) sk spilled 0) (cpf (fun z => fv (hsort (ltB fk fp) held z)) sv spilled 0) (va_up ats runs spilled) ens wn held (spilled + 0) fed sealed runs size consumed current key value many sum least greatest) := by rw [cpf_0, cpf_0]; exact hw
  refine lp_ES_spill (ats := va_up ats runs spilled) (sk := sk) (sv := sv) (spilled := spilled) C hA hh hwb hsh hsp (fun H locs ls hw hl => ?_) held 0 H locs ls (by omega) hw (lv_sub hl [0, 1] rfl)
  refine lv_aload_n hx hb d_ES_spill_73 rfl (lv_at hl 0 rfl) ?_
  refine es_get C hw rfl lk_ES_12 rfl d_ES_spill_74 ?_
  refine lv_aload_n hx hb d_ES_spill_77 rfl (lv_at hl 0 rfl) ?_
  refine es_get C hw rfl lk_ES_13 rfl d_ES_spill_78 ?_
  refine lv_aload_n hx hb d_ES_spill_81 rfl (lv_at hl 0 rfl) ?_
  refine es_get C hw rfl lk_ES_8 rfl d_ES_spill_82 ?_
  refine zr_ast C hw 7 0 rfl rfl (by omega) (by omega) (upd_nA _ _ _) (W1 := esW cI q w sp mo wl (fun z => fk (hsort (ltB fk fp) held z)) (fun z => fv (hsort (ltB fk fp) held z)) (fun z => fp (hsort (ltB fk fp) held z)) (cpf (fun z => fk (hsort (ltB fk fp) held z)) sk spilled held) (cpf (fun z => fv (hsort (ltB fk fp) held z)) sv spilled held) (va_up ats runs spilled) (va_up ens runs (spilled + held)) wn held (spilled + held) fed sealed runs size consumed current key value many sum least greatest) rfl d_ES_spill_85 (fun H locs hw => ?_)
  refine lv_aload_n hx hb d_ES_spill_86 rfl (lv_at hl 0 rfl) ?_
  refine lv_dup hx hb d_ES_spill_87 rfl ?_
  refine es_get C hw rfl lk_ES_13 rfl d_ES_spill_88 ?_
  refine lv_iconst (v := nI 1) hx hb d_ES_spill_91 (by decide) ?_
  refine zr_add hx hb d_ES_spill_92 ?_
  refine es_put C hw rfl lk_ES_13 rfl rfl rfl (Nat.le_of_ble_eq_true rfl) (W1 := esW cI q w sp mo wl (fun z => fk (hsort (ltB fk fp) held z)) (fun z => fv (hsort (ltB fk fp) held z)) (fun z => fp (hsort (ltB fk fp) held z)) (cpf (fun z => fk (hsort (ltB fk fp) held z)) sk spilled held) (cpf (fun z => fv (hsort (ltB fk fp) held z)) sv spilled held) (va_up ats runs spilled) (va_up ens runs (spilled + held)) wn held (spilled + held) fed sealed (runs + 1) size consumed current key value many sum least greatest) rfl d_ES_spill_93 (fun H locs hw => ?_)
  refine lv_aload_n hx hb d_ES_spill_96 rfl (lv_at hl 0 rfl) ?_
  refine lv_iconst (v := nI 0) hx hb d_ES_spill_97 (by decide) ?_
  refine es_put C hw rfl lk_ES_5 rfl rfl rfl (Nat.le_of_ble_eq_true rfl) (W1 := esW cI q w sp mo wl (fun z => fk (hsort (ltB fk fp) held z)) (fun z => fv (hsort (ltB fk fp) held z)) (fun z => fp (hsort (ltB fk fp) held z)) (cpf (fun z => fk (hsort (ltB fk fp) held z)) sk spilled held) (cpf (fun z => fv (hsort (ltB fk fp) held z)) sv spilled held) (va_up ats runs spilled) (va_up ens runs (spilled + held)) wn 0 (spilled + held) fed sealed (runs + 1) size consumed current key value many sum least greatest) rfl d_ES_spill_98 (fun H locs hw => ?_)
  exact zr_vret C () trivial hw d_ES_spill_101
end ES2
end
section
/-! ===== the order of the rows: each place goes behind all before it whose key is not greater (no program in sight) ===== -/
def posF (K : Nat → Int32) (n : Nat) (o : Nat → Nat) : Nat → Nat
  | 0 => 0
  | a + 1 => if K n < K (o a) then posF K n o a else a + 1
def insF (n t : Nat) (o : Nat → Nat) : Nat → Nat := fun i => if i < t then o i else if i = t then n else o (i - 1)
def ordf (K : Nat → Int32) : Nat → (Nat → Nat)
  | 0 => fun i => i
  | n + 1 => insF n (posF K n (ordf K n) n) (ordf K n)
theorem posF_le (K : Nat → Int32) (n : Nat) (o : Nat → Nat) : ∀ a, posF K n o a ≤ a := by
  intro a
  induction a with
  | zero => exact Nat.le_refl _
  | succ a ih => simp only [posF]; split <;> omega
theorem posF_hi (K : Nat → Int32) (n : Nat) (o : Nat → Nat) : ∀ a i, posF K n o a ≤ i → i < a → K n < K (o i) := by
  intro a
  induction a with
  | zero => intro i _ h; omega
  | succ a ih =>
    intro i h1 h2
    simp only [posF] at h1
    split at h1
    · rename_i h
      by_cases hi : i = a
      · subst hi; exact h
      · exact ih i h1 (by omega)
    · omega
theorem posF_lo (K : Nat → Int32) (n : Nat) (o : Nat → Nat) : ∀ a, posF K n o a = 0 ∨ ¬ K n < K (o (posF K n o a - 1)) := by
  intro a
  induction a with
  | zero => exact Or.inl rfl
  | succ a ih =>
    simp only [posF]
    split
    · exact ih
    · rename_i h
      exact Or.inr h
def SortW (K : Nat → Int32) (n : Nat) (o : Nat → Nat) : Prop := ∀ i j, i < j → j < n → wt K (o i) < wt K (o j)
theorem ordf_ok (K : Nat → Int32) : ∀ n, n ≤ 4096 → PermN n (ordf K n) ∧ SortW K n (ordf K n) := by
  intro n
  induction n with
  | zero => intro _; exact ⟨PermN.idn 0, fun i j _ h => by omega⟩
  | succ n ih =>
    intro hn
    obtain ⟨hp, hs⟩ := ih (by omega)
    have t1 := posF_le K n (ordf K n) n
    have t2 := posF_hi K n (ordf K n) n
    have t3 := posF_lo K n (ordf K n) n
    simp only [ordf]
    generalize posF K n (ordf K n) n = t at t1 t2 t3 ⊢
    generalize ordf K n = o at hp hs t2 t3 ⊢
    have e1 : ∀ i, i < t → insF n t o i = o i := fun i h => by simp [insF, h]
    have e2 : insF n t o t = n := by simp [insF]
    have e3 : ∀ i, t < i → insF n t o i = o (i - 1) := fun i h => by simp only [insF]; rw [if_neg (by omega), if_neg (by omega)]
    have low : ∀ i, i < t → (K (o i)).toInt ≤ (K n).toInt := by
      intro i hi
      rcases t3 with h | h
      · omega
      · have h4 : (K (o (t - 1))).toInt ≤ (K n).toInt := Int32.le_iff_toInt_le.mp (Int32.not_lt.mp h)
        by_cases hi2 : i = t - 1
        · rw [hi2]; exact h4
        · have h5 := wt_key (by have := hp.1 i (by omega); omega) (by have := hp.1 (t - 1) (by omega); omega) (hs i (t - 1) (by omega) (by omega))
          omega
    refine ⟨⟨fun i hi => ?_, fun i j hi hj e => ?_, fun k hk => ?_⟩, fun i j hij hj => ?_⟩
    · rcases Nat.lt_trichotomy i t with h | h | h
      · rw [e1 i h]; have := hp.1 i (by omega); omega
      · rw [h, e2]; omega
      · rw [e3 i h]; have := hp.1 (i - 1) (by omega); omega
    · rcases Nat.lt_trichotomy i t with h | h | h <;> rcases Nat.lt_trichotomy j t with h' | h' | h'
      · rw [e1 i h, e1 j h'] at e; exact hp.2.1 i j (by omega) (by omega) e
      · rw [e1 i h, h', e2] at e; have := hp.1 i (by omega); omega
      · rw [e1 i h, e3 j h'] at e; have := hp.2.1 i (j - 1) (by omega) (by omega) e; omega
      · rw [h, e2, e1 j h'] at e; have := hp.1 j (by omega); omega
      · omega
      · rw [h, e2, e3 j h'] at e; have := hp.1 (j - 1) (by omega); omega
      · rw [e3 i h, e1 j h'] at e; have := hp.2.1 (i - 1) j (by omega) (by omega) e; omega
      · rw [e3 i h, h', e2] at e; have := hp.1 (i - 1) (by omega); omega
      · rw [e3 i h, e3 j h'] at e; have := hp.2.1 (i - 1) (j - 1) (by omega) (by omega) e; omega
    · by_cases hk2 : k = n
      · exact ⟨t, by omega, by rw [e2, hk2]⟩
      · obtain ⟨i, hi, e⟩ := hp.2.2 k (by omega)
        by_cases h : i < t
        · exact ⟨i, by omega, by rw [e1 i h]; exact e⟩
        · exact ⟨i + 1, by omega, by rw [e3 (i + 1) (by omega)]; exact e⟩
    · rcases Nat.lt_trichotomy i t with h | h | h
      · have hoi := hp.1 i (by omega)
        rcases Nat.lt_trichotomy j t with h' | h' | h'
        · rw [e1 i h, e1 j h']; exact hs i j hij (by omega)
        · rw [e1 i h, h', e2]
          have := low i h
          unfold wt; omega
        · rw [e1 i h, e3 j h']; exact hs i (j - 1) (by omega) (by omega)
      · rw [h, e2, e3 j (by omega)]
        have h4 := Int32.lt_iff_toInt_lt.mp (t2 (j - 1) (by omega) (by omega))
        have := hp.1 (j - 1) (by omega)
        unfold wt; omega
      · rw [e3 i h, e3 j (by omega)]; exact hs (i - 1) (j - 1) (by omega) (by omega)
/-! the first of the unconsumed rows: ordf K n c -/
theorem ordf_lt {K : Nat → Int32} {n : Nat} (hn : n ≤ 4096) {i : Nat} (hi : i < n) : ordf K n i < n := (ordf_ok K n hn).1.1 i hi
theorem ordf_inj {K : Nat → Int32} {n : Nat} (hn : n ≤ 4096) {i j : Nat} (hi : i < n) (hj : j < n) (h : ordf K n i = ordf K n j) : i = j := (ordf_ok K n hn).1.2.1 i j hi hj h
theorem ordf_sur {K : Nat → Int32} {n : Nat} (hn : n ≤ 4096) {k : Nat} (hk : k < n) : ∃ i, i < n ∧ ordf K n i = k := (ordf_ok K n hn).1.2.2 k hk
theorem ordf_srt {K : Nat → Int32} {n : Nat} (hn : n ≤ 4096) {i j : Nat} (hj : j < n) (h : wt K (ordf K n i) < wt K (ordf K n j)) (hi : i < n) : i < j := by
  rcases Nat.lt_trichotomy i j with q | q | q
  · exact q
  · subst q; omega
  · have := (ordf_ok K n hn).2 j i q hi; omega
/-! blocks of w places: a permutation of the first m places that stays in the blocks and is sorted in each -/
def PB (K : Nat → Int32) (w m : Nat) (pi : Nat → Nat) : Prop := PermN m pi ∧ (∀ j, j < m → pi j / w = j / w) ∧ (∀ i j, i < j → j < m → i / w = j / w → wt K (pi i) < wt K (pi j))
theorem PB.zero (K : Nat → Int32) (w : Nat) : PB K w 0 (fun k => k) := ⟨PermN.idn 0, fun j h => by omega, fun i j _ h => by omega⟩
theorem PB.congr {K K' : Nat → Int32} {w m : Nat} {pi : Nat → Nat} (h : PB K w m pi) (hk : ∀ k, k < m → K' k = K k) : PB K' w m pi :=
  ⟨h.1, h.2.1, fun i j hij hj e => by
    have := h.2.2 i j hij hj e
    unfold wt at this ⊢
    rw [hk _ (h.1.1 i (by omega)), hk _ (h.1.1 j hj)]
    exact this⟩
theorem blk {w r j : Nat} (h1 : r * w ≤ j) (h2 : j < r * w + w) : j / w = r := Nat.div_eq_of_lt_le h1 (by rw [Nat.succ_mul]; exact h2)
theorem blk_lo {w r j : Nat} (hw : 0 < w) (h : j < r * w) : j / w < r := Nat.div_lt_of_lt_mul (by rw [Nat.mul_comm]; exact h)
theorem blk_in {w : Nat} (hw : 0 < w) (j : Nat) : (j / w) * w ≤ j ∧ j < (j / w) * w + w := by
  have h1 := Nat.div_add_mod' j w
  have h2 := Nat.mod_lt j hw
  omega
theorem PB.ext {K fk : Nat → Int32} {w r held : Nat} {pi hs : Nat → Nat} (h : PB K w (r * w) pi) (hw : 0 < w) (hh : held ≤ w) (hp : PermN held hs) (hs1 : ∀ i j, i < j → j < held → wt fk (hs i) < wt fk (hs j)) (hk : ∀ i, i < held → fk i = K (r * w + i)) :
    PB K w (r * w + held) (fun j => if j < r * w then pi j else r * w + hs (j - r * w)) := by
  have ww : ∀ i, i < held → wt K (r * w + i) = wt fk i + (r * w : Nat) := fun i hi => by
    unfold wt; rw [hk i hi]; omega
  refine ⟨⟨fun i hi => ?_, fun i j hi hj e => ?_, fun k hk2 => ?_⟩, fun j hj => ?_, fun i j hij hj e => ?_⟩
  · by_cases h1 : i < r * w
    · simp only [h1, if_true]; have := h.1.1 i h1; omega
    · simp only [h1, if_false]; have := hp.1 (i - r * w) (by omega); omega
  · by_cases h1 : i < r * w <;> by_cases h2 : j < r * w
    · simp only [h1, h2, if_true] at e; exact h.1.2.1 i j h1 h2 e
    · simp only [h1, h2, if_true, if_false] at e; have := h.1.1 i h1; omega
    · simp only [h1, h2, if_true, if_false] at e; have := h.1.1 j h2; omega
    · simp only [h1, h2, if_false] at e
      have := hp.2.1 (i - r * w) (j - r * w) (by omega) (by omega) (by omega)
      omega
  · by_cases h1 : k < r * w
    · obtain ⟨i, hi, e⟩ := h.1.2.2 k h1
      exact ⟨i, by omega, by simp only [hi, if_true]; exact e⟩
    · obtain ⟨i, hi, e⟩ := hp.2.2 (k - r * w) (by omega)
      refine ⟨r * w + i, by omega, ?_⟩
      have h2 : ¬ r * w + i < r * w := by omega
      simp only [h2, if_false]
      rw [Nat.add_sub_cancel_left, e]
      omega
  · by_cases h1 : j < r * w
    · simp only [h1, if_true]; exact h.2.1 j h1
    · simp only [h1, if_false]
      have := hp.1 (j - r * w) (by omega)
      rw [blk (r := r) (w := w) (j := j) (by omega) (by omega), blk (r := r) (w := w) (by omega) (by omega)]
  · by_cases h2 : j < r * w
    · have h1 : i < r * w := by omega
      simp only [h1, h2, if_true]; exact h.2.2 i j hij h2 e
    · have ej := blk (r := r) (w := w) (j := j) (by omega) (by omega)
      have h1 : ¬ i < r * w := fun q => by
        have := blk_lo hw q
        omega
      simp only [h1, h2, if_false]
      rw [ww _ (hp.1 _ (by omega)), ww _ (hp.1 _ (by omega))]
      have := hs1 (i - r * w) (j - r * w) (by omega) (by omega)
      omega
end
section
/-! ===== the tournament (no program in sight) ===== -/
theorem pick_mem {ats ens : Nat → Nat} {kf : Nat → Int32} {o1 o2 : Option Nat} {k : Nat} (h : pickF ats ens kf o1 o2 = some k) : (o1 = some k ∨ o2 = some k) ∧ ats k < ens k := by
  cases e1 : hasB ats ens o1 <;> cases e2 : hasB ats ens o2
  · rw [pkf_3 e1 e2] at h; cases h
  · rw [pkf_2 e1 e2] at h
    obtain ⟨k2, q1, q2⟩ := hasB_some e2
    rw [h] at q1; cases q1
    exact ⟨Or.inr h, q2⟩
  · rw [pkf_1 e1 e2] at h
    obtain ⟨k2, q1, q2⟩ := hasB_some e1
    rw [h] at q1; cases q1
    exact ⟨Or.inl h, q2⟩
  · obtain ⟨a, rfl, ha⟩ := hasB_some e1
    obtain ⟨b, rfl, hb⟩ := hasB_some e2
    by_cases h1 : kf a = kf b
    · rw [pkf_e e1 e2 h1] at h
      cases h
      by_cases hab : a ≤ b
      · rw [Nat.min_eq_left hab]; exact ⟨Or.inl rfl, ha⟩
      · rw [Nat.min_eq_right (by omega)]; exact ⟨Or.inr rfl, hb⟩
    · by_cases h2 : kf b ≤ kf a
      · rw [pkf_g e1 e2 h1 h2] at h; cases h; exact ⟨Or.inr rfl, hb⟩
      · rw [pkf_l e1 e2 h1 h2] at h; cases h; exact ⟨Or.inl rfl, ha⟩
/-- the weight of a run's first row among those of others: its key, then the run -/
def hv (kf : Nat → Int32) (o : Option Nat) : Int := match o with
  | none => 2 ^ 60
  | some k => (kf k).toInt * 4096 + k
theorem hv_lt {kf : Nat → Int32} {k : Nat} (h : k < 4096) : hv kf (some k) < 2 ^ 60 := by
  have h1 := (kf k).toInt_lt
  have e1 : hv kf (some k) = (kf k).toInt * 4096 + k := rfl
  rw [e1]; omega
theorem pick_min {ats ens : Nat → Nat} {kf : Nat → Int32} {o1 o2 : Option Nat} (h1 : ∀ k, o1 = some k → ats k < ens k ∧ k < 4096) (h2 : ∀ k, o2 = some k → ats k < ens k ∧ k < 4096) : hv kf (pickF ats ens kf o1 o2) ≤ hv kf o1 ∧ hv kf (pickF ats ens kf o1 o2) ≤ hv kf o2 := by
  have en : hasB ats ens none = false := rfl
  cases o1 with
  | none =>
    cases o2 with
    | none => rw [pkf_3 en en]; exact ⟨Int.le_refl _, Int.le_refl _⟩
    | some b =>
      have hb := h2 b rfl
      rw [pkf_2 en (show hasB ats ens (some b) = true from decide_eq_true hb.1)]
      exact ⟨Int.le_of_lt (hv_lt hb.2), Int.le_refl _⟩
  | some a =>
    have ha := h1 a rfl
    cases o2 with
    | none =>
      rw [pkf_1 (show hasB ats ens (some a) = true from decide_eq_true ha.1) en]
      exact ⟨Int.le_refl _, Int.le_of_lt (hv_lt ha.2)⟩
    | some b =>
      have hb := h2 b rfl
      have e1 : hasB ats ens (some a) = true := decide_eq_true ha.1
      have e2 : hasB ats ens (some b) = true := decide_eq_true hb.1
      have va : hv kf (some a) = (kf a).toInt * 4096 + a := rfl
      have vb : hv kf (some b) = (kf b).toInt * 4096 + b := rfl
      by_cases q1 : kf a = kf b
      · rw [pkf_e e1 e2 q1]
        by_cases hab : a ≤ b
        · rw [Nat.min_eq_left hab, va, vb, q1]; omega
        · rw [Nat.min_eq_right (by omega), va, vb, q1]; omega
      · have q3 : (kf a).toInt ≠ (kf b).toInt := fun z => q1 (Int32.toInt_inj.mp z)
        by_cases q2 : kf b ≤ kf a
        · have q4 := Int32.le_iff_toInt_le.mp q2
          rw [pkf_g e1 e2 q1 q2, va, vb]; omega
        · have q4 := Int32.lt_iff_toInt_lt.mp (Int32.not_le.mp q2)
          rw [pkf_l e1 e2 q1 q2, va, vb]; omega
theorem pick_congr {ats ats' ens : Nat → Nat} {kf kf' : Nat → Int32} {r0 : Nat} (ha : ∀ k, k ≠ r0 → ats' k = ats k) (hk : ∀ k, k ≠ r0 → kf' k = kf k) {o1 o2 : Option Nat} (h1 : o1 ≠ some r0) (h2 : o2 ≠ some r0) : pickF ats' ens kf' o1 o2 = pickF ats ens kf o1 o2 := by
  have hh : ∀ o : Option Nat, o ≠ some r0 → hasB ats' ens o = hasB ats ens o := by
    intro o ho
    cases o with
    | none => rfl
    | some k =>
      have : k ≠ r0 := fun z => ho (by rw [z])
      simp only [hasB, ha k this]
  unfold pickF
  rw [hh o1 h1, hh o2 h2]
  cases o1 with
  | none => rfl
  | some a =>
    cases o2 with
    | none => rfl
    | some b =>
      have qa : a ≠ r0 := fun z => h1 (by rw [z])
      have qb : b ≠ r0 := fun z => h2 (by rw [z])
      simp only [hk a qa, hk b qb]
/-- the leaves hold the runs that have rows; each inner node holds the winner of its two -/
def TI (ats ens : Nat → Nat) (kf : Nat → Int32) (runs size : Nat) (wn : Nat → Option Nat) : Prop :=
  (∀ k, k < size → wn (size + k) = if k < runs ∧ ats k < ens k then some k else none) ∧ (∀ n, 0 < n → n < size → wn n = pickF ats ens kf (wn (2 * n)) (wn (2 * n + 1)))
theorem half_pow (a e : Nat) : a / 2 ^ (e + 1) = a / 2 ^ e / 2 := by rw [Nat.div_div_eq_div_mul, Nat.pow_succ]
theorem ti_val {ats ens : Nat → Nat} {kf : Nat → Int32} {runs size : Nat} {wn : Nat → Option Nat} (h : TI ats ens kf runs size wn) : ∀ (m x : Nat), 2 * size ≤ x + m → 0 < x → x < 2 * size → ∀ k, wn x = some k → k < runs ∧ ats k < ens k ∧ ∃ e, (size + k) / 2 ^ e = x := by
  intro m
  induction m with
  | zero => intro x h1 h2 h3; omega
  | succ m ih =>
    intro x h1 h2 h3 k hk
    by_cases hx : x < size
    · rw [h.2 x h2 hx] at hk
      rcases (pick_mem hk).1 with q | q
      · obtain ⟨a1, a2, e, a3⟩ := ih (2 * x) (by omega) (by omega) (by omega) k q
        exact ⟨a1, a2, e + 1, by rw [half_pow, a3]; omega⟩
      · obtain ⟨a1, a2, e, a3⟩ := ih (2 * x + 1) (by omega) (by omega) (by omega) k q
        exact ⟨a1, a2, e + 1, by rw [half_pow, a3]; omega⟩
    · have e1 := h.1 (x - size) (by omega)
      rw [show size + (x - size) = x by omega, hk] at e1
      split at e1
      · rename_i q
        cases e1
        exact ⟨q.1, q.2, 0, by rw [Nat.pow_zero, Nat.div_one]; omega⟩
      · cases e1
theorem ti_root {ats ens : Nat → Nat} {kf : Nat → Int32} {runs size : Nat} {wn : Nat → Option Nat} (h : TI ats ens kf runs size wn) (hr : runs ≤ 4096) : ∀ x, 0 < x → x < 2 * size → hv kf (wn 1) ≤ hv kf (wn x) := by
  intro x
  induction x using Nat.strongRecOn with
  | _ x ih =>
    intro h0 hx
    by_cases h1 : x = 1
    · subst h1; exact Int.le_refl _
    · have e1 := h.2 (x / 2) (by omega) (by omega)
      have pm := pick_min (ats := ats) (ens := ens) (kf := kf) (o1 := wn (2 * (x / 2))) (o2 := wn (2 * (x / 2) + 1))
        (fun k hk => by have := ti_val h (2 * size) (2 * (x / 2)) (by omega) (by omega) (by omega) k hk; exact ⟨this.2.1, by omega⟩)
        (fun k hk => by have := ti_val h (2 * size) (2 * (x / 2) + 1) (by omega) (by omega) (by omega) k hk; exact ⟨this.2.1, by omega⟩)
      rw [← e1] at pm
      have i1 := ih (x / 2) (by omega) (by omega) (by omega)
      rcases (show x = 2 * (x / 2) ∨ x = 2 * (x / 2) + 1 by omega) with q | q
      · exact Int.le_trans i1 (by rw [q, show 2 * (x / 2) / 2 = x / 2 by omega] at *; exact pm.1)
      · exact Int.le_trans i1 (by rw [show wn x = wn (2 * (x / 2) + 1) from congrArg wn q]; exact pm.2)
/-! while a run's leaf plays again: all nodes but those above the leaf that are still to come hold their winner -/
def PI (ats ens : Nat → Nat) (kf : Nat → Int32) (runs size r0 e : Nat) (wn : Nat → Option Nat) : Prop :=
  (∀ k, k < size → wn (size + k) = if k < runs ∧ ats k < ens k then some k else none) ∧ (∀ n, 0 < n → n < size → (∀ e', e ≤ e' → n ≠ (size + r0) / 2 ^ e') → wn n = pickF ats ens kf (wn (2 * n)) (wn (2 * n + 1))) ∧ (∀ x, 0 < x → x < 2 * size → ∀ k, wn x = some k → k < runs)
theorem va_up_s {α : Type} (f : Nat → α) (k : Nat) (v : α) : va_up f k v k = v := by simp [va_up]
theorem va_up_o {α : Type} (f : Nat → α) {k j : Nat} (v : α) (h : j ≠ k) : va_up f k v j = f j := by simp [va_up, h]
theorem pi_step {ats ens : Nat → Nat} {kf : Nat → Int32} {runs size r0 e v : Nat} {wn : Nat → Option Nat} (h : PI ats ens kf runs size r0 e wn) (hv : (size + r0) / 2 ^ e = v) (h0 : 0 < v) (hs : v < size) : PI ats ens kf runs size r0 (e + 1) (va_up wn v (pickF ats ens kf (wn (2 * v)) (wn (2 * v + 1)))) := by
  refine ⟨fun k hk => ?_, fun n hn hns hne => ?_, fun x hx hx2 k hk => ?_⟩
  · rw [va_up_o _ _ (by omega)]; exact h.1 k hk
  · by_cases q : n = v
    · subst q
      rw [va_up_s, va_up_o _ _ (by omega), va_up_o _ _ (by omega)]
    · have hp : n ≠ v / 2 := fun z => hne (e + 1) (Nat.le_refl _) (by rw [half_pow, hv]; exact z)
      rw [va_up_o _ _ q, va_up_o _ _ (by omega), va_up_o _ _ (by omega)]
      refine h.2.1 n hn hns (fun e' he => ?_)
      by_cases q2 : e' = e
      · subst q2; rw [hv]; exact q
      · exact hne e' (by omega)
  · by_cases q : x = v
    · subst q
      rw [va_up_s] at hk
      rcases (pick_mem hk).1 with z | z
      · exact h.2.2 _ (by omega) (by omega) k z
      · exact h.2.2 _ (by omega) (by omega) k z
    · rw [va_up_o _ _ q] at hk
      exact h.2.2 x hx hx2 k hk
theorem pi_end {ats ens : Nat → Nat} {kf : Nat → Int32} {runs size r0 e : Nat} {wn : Nat → Option Nat} (h : PI ats ens kf runs size r0 e wn) (hv : (size + r0) / 2 ^ e = 0) : TI ats ens kf runs size wn := by
  refine ⟨h.1, fun n hn hns => h.2.1 n hn hns (fun e' he z => ?_)⟩
  have : (size + r0) / 2 ^ e' = 0 := by
    obtain ⟨d, rfl⟩ : ∃ d, e' = e + d := ⟨e' - e, by omega⟩
    rw [Nat.pow_add, ← Nat.div_div_eq_div_mul, hv, Nat.zero_div]
  omega
theorem pi_0 {ats ats' ens : Nat → Nat} {kf kf' : Nat → Int32} {runs size r0 : Nat} {wn : Nat → Option Nat} (h : TI ats ens kf runs size wn) (hr : r0 < runs) (hrs : runs ≤ size) (hr0 : ats r0 < ens r0) (ha : ∀ k, k ≠ r0 → ats' k = ats k) (hk : ∀ k, k ≠ r0 → kf' k = kf k) {wn' : Nat → Option Nat}
    (hw : (ats' r0 < ens r0 ∧ wn' = wn) ∨ (¬ ats' r0 < ens r0 ∧ wn' = va_up wn (size + r0) none)) : PI ats' ens kf' runs size r0 1 wn' := by
  have hval := ti_val h (2 * size)
  have ho : ∀ j, j ≠ size + r0 → wn' j = wn j := by
    intro j hj
    rcases hw with ⟨-, e⟩ | ⟨-, e⟩
    · rw [e]
    · rw [e, va_up_o _ _ hj]
  refine ⟨fun k hk2 => ?_, fun n hn hns hne => ?_, fun x hx hx2 k hk2 => ?_⟩
  · by_cases q : k = r0
    · subst q
      rcases hw with ⟨q1, e⟩ | ⟨q1, e⟩
      · rw [e, h.1 k hk2, if_pos ⟨hr, hr0⟩, if_pos ⟨hr, q1⟩]
      · rw [e, va_up_s, if_neg (fun z => q1 z.2)]
    · rw [ho _ (by omega), h.1 k hk2, ha k q]
  · have n1 : n ≠ (size + r0) / 2 := by have := hne 1 (Nat.le_refl _); rwa [Nat.pow_one] at this
    have ne : ∀ x, (x = 2 * n ∨ x = 2 * n + 1) → wn x ≠ some r0 := by
      intro x hx z
      obtain ⟨-, -, e, he⟩ := hval x (by omega) (by omega) (by omega) r0 z
      exact hne (e + 1) (by omega) (by rw [half_pow, he]; omega)
    rw [ho n (by omega), ho (2 * n) (by omega), ho (2 * n + 1) (by omega), h.2 n hn hns]
    exact (pick_congr ha hk (ne _ (Or.inl rfl)) (ne _ (Or.inr rfl))).symm
  · by_cases q : x = size + r0
    · subst q
      rcases hw with ⟨-, e⟩ | ⟨-, e⟩
      · rw [e] at hk2; exact (hval _ (by omega) hx hx2 k hk2).1
      · rw [e, va_up_s] at hk2; cases hk2
    · rw [ho x q] at hk2; exact (hval x (by omega) hx hx2 k hk2).1
/-! while the tree is laid: the nodes above n hold their winner -/
def SI (ats ens : Nat → Nat) (kf : Nat → Int32) (runs size n : Nat) (wn : Nat → Option Nat) : Prop :=
  (∀ k, k < size → wn (size + k) = if k < runs ∧ ats k < ens k then some k else none) ∧ (∀ x, n < x → x < size → wn x = pickF ats ens kf (wn (2 * x)) (wn (2 * x + 1))) ∧ (∀ x, n < x → x < 2 * size → ∀ k, wn x = some k → k < runs)
theorem si_step {ats ens : Nat → Nat} {kf : Nat → Int32} {runs size n : Nat} {wn : Nat → Option Nat} (h : SI ats ens kf runs size (n + 1) wn) (hs : n + 1 < size) : SI ats ens kf runs size n (va_up wn (n + 1) (pickF ats ens kf (wn (2 * (n + 1))) (wn (2 * (n + 1) + 1)))) := by
  refine ⟨fun k hk => ?_, fun x hx hx2 => ?_, fun x hx hx2 k hk => ?_⟩
  · rw [va_up_o _ _ (by omega)]; exact h.1 k hk
  · by_cases q : x = n + 1
    · subst q
      rw [va_up_s, va_up_o _ _ (by omega), va_up_o _ _ (by omega)]
    · rw [va_up_o _ _ q, va_up_o _ _ (by omega), va_up_o _ _ (by omega)]
      exact h.2.1 x (by omega) hx2
  · by_cases q : x = n + 1
    · subst q
      rw [va_up_s] at hk
      rcases (pick_mem hk).1 with z | z
      · exact h.2.2 _ (by omega) (by omega) k z
      · exact h.2.2 _ (by omega) (by omega) k z
    · rw [va_up_o _ _ q] at hk
      exact h.2.2 x (by omega) hx2 k hk
theorem si_end {ats ens : Nat → Nat} {kf : Nat → Int32} {runs size : Nat} {wn : Nat → Option Nat} (h : SI ats ens kf runs size 0 wn) : TI ats ens kf runs size wn := ⟨h.1, h.2.1⟩
theorem si_0 {ats ens : Nat → Nat} {kf : Nat → Int32} {runs size : Nat} {wn : Nat → Option Nat} (h : ∀ k, k < size → wn (size + k) = if k < runs ∧ ats k < ens k then some k else none) : SI ats ens kf runs size (size - 1) wn := by
  refine ⟨h, fun x h1 h2 => by omega, fun x h1 h2 k hk => ?_⟩
  have e1 := h (x - size) (by omega)
  rw [show size + (x - size) = x by omega, hk] at e1
  split at e1
  · rename_i q
    cases e1
    exact q.1
  · cases e1
end
section
/-! ===== what the sorter's cells mean: K, V are the pairs as they were fed (no program in sight) ===== -/
/-- before sealing -/
def RepU (w S : Nat) (K V : Nat → Int32) (fed : Nat) (fk fv fp sk sv : Nat → Int32) (ats ens : Nat → Nat) (held spilled runs : Nat) : Prop :=
  (runs ≤ S ∧ held ≤ w ∧ fed = runs * w + held ∧ spilled = runs * w) ∧ (∃ pi, PB K w (runs * w) pi ∧ ∀ j, j < runs * w → sk j = K (pi j) ∧ sv j = V (pi j)) ∧ (∀ k, k < runs → ats k = k * w ∧ ens k = (k + 1) * w) ∧ (∀ i, i < held → fk i = K (runs * w + i) ∧ fv i = V (runs * w + i) ∧ fp i = nI i)
/-- where the runs' next rows and ends are -/
def RB (r w held : Nat) (ats ens : Nat → Nat) : Prop := (∀ k, k < r → ens k = (k + 1) * w ∧ k * w ≤ ats k ∧ ats k ≤ (k + 1) * w) ∧ ens r = held ∧ ats r ≤ held
def absA (r w : Nat) (ats : Nat → Nat) (k : Nat) : Nat := if k = r then r * w + ats k else ats k
/-- behind sealing: c rows are consumed -/
def RepS (w S wl : Nat) (K V : Nat → Int32) (fed c : Nat) (fk fv sk sv : Nat → Int32) (ats ens : Nat → Nat) (wn : Nat → Option Nat) (held spilled runs size : Nat) : Prop :=
  ∃ (r : Nat) (pi : Nat → Nat), (runs = r + 1 ∧ r ≤ S ∧ held ≤ w ∧ fed = r * w + held ∧ spilled = r * w ∧ c ≤ fed) ∧ PB K w fed pi ∧ ((∀ j, j < r * w → sk j = K (pi j) ∧ sv j = V (pi j)) ∧ (∀ i, i < held → fk i = K (pi (r * w + i)) ∧ fv i = V (pi (r * w + i)))) ∧ RB r w held ats ens ∧ (∀ j, j < fed → (j < absA r w ats (j / w) ↔ ∃ i, i < c ∧ ordf K fed i = pi j)) ∧ (2 * size ≤ wl ∧ runs ≤ size) ∧ TI ats ens (kfF fk sk ats runs) runs size wn
theorem RepU.empty (w S : Nat) (K V fk fv fp sk sv : Nat → Int32) (ats ens : Nat → Nat) : RepU w S K V 0 fk fv fp sk sv ats ens 0 0 0 :=
  ⟨⟨Nat.zero_le _, Nat.zero_le _, by omega, by omega⟩, ⟨fun k => k, by rw [Nat.zero_mul]; exact PB.zero K w, fun j h => by omega⟩, fun k h => by omega, fun i h => by omega⟩
theorem rb_vk {w S r held : Nat} {ats ens : Nat → Nat} (h : RB r w held ats ens) (hr : r ≤ S) (hh : held ≤ w) (hw : w ≤ 64) (hS : S * w ≤ 2000) {k : Nat} (hk : k < r + 1) : VK w (S * w) (S + 1) ats ens (r + 1) k := by
  by_cases q : k = r
  · subst q
    have h1 := h.2.1
    have h2 := h.2.2
    exact ⟨by omega, by omega, by omega, fun z => by rw [if_pos rfl]; omega⟩
  · obtain ⟨h1, h2, h3⟩ := h.1 k (by omega)
    have h4 : (k + 1) * w ≤ S * w := Nat.mul_le_mul_right w (by omega)
    exact ⟨by omega, by omega, by omega, fun z => by rw [if_neg (by omega)]; omega⟩
theorem RepU.vk {w S : Nat} {K V : Nat → Int32} {fed : Nat} {fk fv fp sk sv : Nat → Int32} {ats ens : Nat → Nat} {held spilled runs : Nat} (h : RepU w S K V fed fk fv fp sk sv ats ens held spilled runs) (hw : w ≤ 64) (hS : S * w ≤ 2000) {k : Nat} (hk : k < runs) : k < S + 1 ∧ ats k < 2 ^ 31 ∧ ens k < 2 ^ 31 := by
  obtain ⟨h1, h2⟩ := h.2.2.1 k hk
  have h3 : (k + 1) * w ≤ S * w := Nat.mul_le_mul_right w (by have := h.1.1; omega)
  have h4 : k * w ≤ (k + 1) * w := Nat.mul_le_mul_right w (by omega)
  have := h.1.1
  omega
theorem RepU.fed_le {w S : Nat} {K V : Nat → Int32} {fed : Nat} {fk fv fp sk sv : Nat → Int32} {ats ens : Nat → Nat} {held spilled runs : Nat} (h : RepU w S K V fed fk fv fp sk sv ats ens held spilled runs) : fed ≤ S * w + w := by
  have h1 : runs * w ≤ S * w := Nat.mul_le_mul_right w h.1.1
  have := h.1.2.1
  have := h.1.2.2.1
  omega
theorem RepS.fed_le {w S wl : Nat} {K V : Nat → Int32} {fed c : Nat} {fk fv sk sv : Nat → Int32} {ats ens : Nat → Nat} {wn : Nat → Option Nat} {held spilled runs size : Nat} (h : RepS w S wl K V fed c fk fv sk sv ats ens wn held spilled runs size) : fed ≤ S * w + w := by
  obtain ⟨r, pi, ⟨h0, h1, h2, h3, h4, h5⟩, -⟩ := h
  have h6 : r * w ≤ S * w := Nat.mul_le_mul_right w h1
  omega
theorem RepU.less {w S : Nat} {K V : Nat → Int32} {fed : Nat} {fk fv fp sk sv : Nat → Int32} {ats ens : Nat → Nat} {held spilled runs : Nat} (h : RepU w S K V fed fk fv fp sk sv ats ens held spilled runs) (hf : fed ≠ S * w + w) (hh : held = w) : runs < S := by
  have h1 := h.1.1
  have h2 := h.1.2.2.1
  rcases Nat.lt_or_ge runs S with q | q
  · exact q
  · have : runs = S := by omega
    rw [this] at h2
    omega
/-- the work area goes to the spill -/
theorem RepU.spill {w S : Nat} {K V : Nat → Int32} {fed : Nat} {fk fv fp sk sv : Nat → Int32} {ats ens : Nat → Nat} {held spilled runs : Nat} (h : RepU w S K V fed fk fv fp sk sv ats ens held spilled runs) (hw0 : 0 < w) (hw : w ≤ 64) (hh : held = w) (hr : runs < S) (gk gv gp : Nat → Int32) :
    RepU w S K V fed gk gv gp (cpf (fun z => fk (hsort (ltB fk fp) held z)) sk spilled held) (cpf (fun z => fv (hsort (ltB fk fp) held z)) sv spilled held) (va_up ats runs spilled) (va_up ens runs (spilled + held)) 0 (spilled + held) (runs + 1) := by
  obtain ⟨⟨h1, h2, h3, h4⟩, ⟨pi, hpb, hpi⟩, h5, h6⟩ := h
  subst hh
  have hp := hsort_perm (ltB fk fp) held
  have hs := hsort_sorted (lt := ltB fk fp) (g := wt fk) (N := held) (fun x y hx hy => ltB_wt (by omega) (fun k hk => (h6 k hk).2.2) x y hx hy) (fun x y hx hy e => wt_inj (by omega) (by omega) e)
  generalize hsort (ltB fk fp) held = hs' at hp hs
  have e1 : (runs + 1) * held = runs * held + held := Nat.succ_mul _ _
  refine ⟨⟨by omega, by omega, by omega, by omega⟩, ⟨_, by rw [e1]; exact hpb.ext hw0 (Nat.le_refl _) hp hs (fun i hi => (h6 i hi).1), fun j hj => ?_⟩, fun k hk => ?_, fun i hi => by omega⟩
  · rw [e1] at hj
    by_cases q : j < runs * held
    · simp only [q, if_true]
      unfold cpf
      rw [if_neg (by omega), if_neg (by omega)]
      exact hpi j q
    · simp only [q, if_false]
      unfold cpf
      rw [if_pos (by omega), if_pos (by omega), h4]
      have h7 := hp.1 (j - runs * held) (by omega)
      exact ⟨(h6 _ h7).1, (h6 _ h7).2.1⟩
  · by_cases q : k = runs
    · subst q
      rw [va_up_s, va_up_s]; exact ⟨h4, by rw [h4]; omega⟩
    · rw [va_up_o _ _ q, va_up_o _ _ q]; exact h5 k (by omega)
/-- a pair is laid into the work area -/
theorem RepU.add {w S : Nat} {K V : Nat → Int32} {fed : Nat} {fk fv fp sk sv : Nat → Int32} {ats ens : Nat → Nat} {held spilled runs : Nat} (h : RepU w S K V fed fk fv fp sk sv ats ens held spilled runs) (hh : held < w) (x y : Int32) :
    RepU w S (upd K fed x) (upd V fed y) (fed + 1) (upd fk held x) (upd fv held y) (upd fp held (nI held)) sk sv ats ens (held + 1) spilled runs := by
  obtain ⟨⟨h1, h2, h3, h4⟩, ⟨pi, hpb, hpi⟩, h5, h6⟩ := h
  have hk : ∀ (f : Nat → Int32) (v : Int32) (k : Nat), k < runs * w → upd f fed v k = f k := fun f v k hk => pk_un (by omega)
  refine ⟨⟨h1, by omega, by omega, h4⟩, ⟨pi, hpb.congr (hk K x), fun j hj => ?_⟩, h5, fun i hi => ?_⟩
  · have := hpb.1.1 j hj
    rw [hk K x _ this, hk V y _ this]; exact hpi j hj
  · by_cases q : i = held
    · subst q
      rw [pk_us, pk_us, pk_us, ← h3, pk_us, pk_us]; exact ⟨rfl, rfl, rfl⟩
    · rw [pk_un q, pk_un q, pk_un q, pk_un (by omega), pk_un (by omega)]; exact h6 i (by omega)
/-- sealing -/
theorem RepU.seal {w S wl : Nat} {K V : Nat → Int32} {fed : Nat} {fk fv fp sk sv : Nat → Int32} {ats ens : Nat → Nat} {held spilled runs : Nat} (h : RepU w S K V fed fk fv fp sk sv ats ens held spilled runs) (hw0 : 0 < w) (hw : w ≤ 64) {size : Nat} {wn : Nat → Option Nat} (hz : 2 * size ≤ wl) (hrs : runs + 1 ≤ size)
    (ht : TI (va_up ats runs 0) (va_up ens runs held) (kfF (fun z => fk (hsort (ltB fk fp) held z)) sk (va_up ats runs 0) (runs + 1)) (runs + 1) size wn) :
    RepS w S wl K V fed 0 (fun z => fk (hsort (ltB fk fp) held z)) (fun z => fv (hsort (ltB fk fp) held z)) sk sv (va_up ats runs 0) (va_up ens runs held) wn held spilled (runs + 1) size := by
  obtain ⟨⟨h1, h2, h3, h4⟩, ⟨pi, hpb, hpi⟩, h5, h6⟩ := h
  have hp := hsort_perm (ltB fk fp) held
  have hs := hsort_sorted (lt := ltB fk fp) (g := wt fk) (N := held) (fun x y hx hy => ltB_wt (by omega) (fun k hk => (h6 k hk).2.2) x y hx hy) (fun x y hx hy e => wt_inj (by omega) (by omega) e)
  generalize hsort (ltB fk fp) held = hs' at hp hs ht ⊢
  refine ⟨runs, _, ⟨rfl, h1, h2, h3, h4, Nat.zero_le _⟩, by rw [h3]; exact hpb.ext hw0 h2 hp hs (fun i hi => (h6 i hi).1), ⟨fun j hj => ?_, fun i hi => ?_⟩, ⟨fun k hk => ?_, va_up_s _ _ _, by rw [va_up_s]; exact Nat.zero_le _⟩, fun j hj => ⟨fun q => ?_, fun q => ?_⟩, ⟨hz, hrs⟩, ht⟩
  · simp only [hj, if_true]; exact hpi j hj
  · have q : ¬ runs * w + i < runs * w := by omega
    simp only [q, if_false]
    rw [Nat.add_sub_cancel_left]
    have h7 := hp.1 i hi
    exact ⟨(h6 _ h7).1, (h6 _ h7).2.1⟩
  · rw [va_up_o _ _ (by omega), va_up_o _ _ (by omega)]
    obtain ⟨a1, a2⟩ := h5 k hk
    exact ⟨a2, by omega, by rw [a1]; exact Nat.mul_le_mul_right w (by omega)⟩
  · exfalso
    unfold absA at q
    have hb := blk_in hw0 j
    by_cases z : j / w = runs
    · rw [if_pos z, z, va_up_s] at q
      rw [z] at hb
      omega
    · rw [if_neg z, va_up_o _ _ z] at q
      have hj2 : j / w < runs := by
        rcases Nat.lt_or_ge j (runs * w) with q2 | q2
        · exact blk_lo hw0 q2
        · exact absurd (blk (r := runs) (w := w) (j := j) q2 (by omega)) z
      rw [(h5 _ hj2).1] at q
      omega
  · obtain ⟨i, hi, -⟩ := q; omega
/-- a run with rows: where its first one lies -/
theorem repS_head {w S : Nat} {K V : Nat → Int32} {fed c : Nat} {fk fv sk sv : Nat → Int32} {ats ens : Nat → Nat} {held : Nat} {r : Nat} {pi : Nat → Nat} (hf : fed = r * w + held) (hh : held ≤ w) (hd : (∀ j, j < r * w → sk j = K (pi j) ∧ sv j = V (pi j)) ∧ (∀ i, i < held → fk i = K (pi (r * w + i)) ∧ fv i = V (pi (r * w + i)))) (hb : RB r w held ats ens)
    (hc : ∀ j, j < fed → (j < absA r w ats (j / w) ↔ ∃ i, i < c ∧ ordf K fed i = pi j)) {k : Nat} (hk : k < r + 1) (hl : ats k < ens k) :
    absA r w ats k < fed ∧ absA r w ats k / w = k ∧ kfF fk sk ats (r + 1) k = K (pi (absA r w ats k)) ∧ kfF fv sv ats (r + 1) k = V (pi (absA r w ats k)) ∧ ¬ ∃ i, i < c ∧ ordf K fed i = pi (absA r w ats k) := by
  have key : absA r w ats k < fed ∧ absA r w ats k / w = k ∧ kfF fk sk ats (r + 1) k = K (pi (absA r w ats k)) ∧ kfF fv sv ats (r + 1) k = V (pi (absA r w ats k)) := by
    unfold absA kfF
    by_cases q : k = r
    · subst q
      rw [if_pos rfl, if_pos rfl, if_pos rfl]
      rw [hb.2.1] at hl
      exact ⟨by omega, blk (by omega) (by omega), (hd.2 _ hl).1, (hd.2 _ hl).2⟩
    · rw [if_neg q, if_neg (by omega), if_neg (by omega)]
      obtain ⟨a1, a2, a3⟩ := hb.1 k (by omega)
      have h4 : (k + 1) * w ≤ r * w := Nat.mul_le_mul_right w (by omega)
      have h5 : (k + 1) * w = k * w + w := Nat.succ_mul _ _
      exact ⟨by omega, blk a2 (by omega), (hd.1 _ (by omega)).1, (hd.1 _ (by omega)).2⟩
  refine ⟨key.1, key.2.1, key.2.2.1, key.2.2.2, fun z => ?_⟩
  have := (hc _ key.1).mpr z
  rw [key.2.1] at this
  omega
/-- the winner is the run whose first row comes next in the order -/
theorem repS_win {w S wl : Nat} {K V : Nat → Int32} {fed c : Nat} {fk fv sk sv : Nat → Int32} {ats ens : Nat → Nat} {wn : Nat → Option Nat} {held size : Nat} {r : Nat} {pi : Nat → Nat} (hw0 : 0 < w) (hfm : fed ≤ 4096) (hf : fed = r * w + held) (hh : held ≤ w) (hpb : PB K w fed pi) (hd : (∀ j, j < r * w → sk j = K (pi j) ∧ sv j = V (pi j)) ∧ (∀ i, i < held → fk i = K (pi (r * w + i)) ∧ fv i = V (pi (r * w + i)))) (hb : RB r w held ats ens)
    (hc : ∀ j, j < fed → (j < absA r w ats (j / w) ↔ ∃ i, i < c ∧ ordf K fed i = pi j)) (hrs : r + 1 ≤ size) (hr4 : r + 1 ≤ 4096) (ht : TI ats ens (kfF fk sk ats (r + 1)) (r + 1) size wn) (hcf : c < fed) :
    ∃ k, wn 1 = some k ∧ k < r + 1 ∧ ats k < ens k ∧ pi (absA r w ats k) = ordf K fed c := by
  have head := fun {k : Nat} => repS_head (w := w) (S := S) (K := K) (V := V) (fed := fed) (c := c) (fk := fk) (fv := fv) (sk := sk) (sv := sv) (ats := ats) (ens := ens) (held := held) (r := r) (pi := pi) hf hh hd hb hc (k := k)
  -- where the next row of the order lies
  obtain ⟨j, hj, ej⟩ := hpb.1.2.2 (ordf K fed c) (ordf_lt hfm hcf)
  have hjb := blk_in hw0 j
  have hk0 : j / w < r + 1 := by
    rcases Nat.lt_or_ge j (r * w) with q | q
    · have := blk_lo hw0 q; omega
    · have := blk (r := r) (w := w) (j := j) q (by omega); omega
  have hge : absA r w ats (j / w) ≤ j := by
    rcases Nat.lt_or_ge j (absA r w ats (j / w)) with q | q
    · obtain ⟨i, hi, ei⟩ := (hc j hj).mp q
      have := ordf_inj hfm (by omega) hcf (ei.trans ej)
      omega
    · exact q
  -- that run has rows
  have hlt0 : ats (j / w) < ens (j / w) := by
    unfold absA at hge
    by_cases q : j / w = r
    · rw [if_pos q] at hge
      rw [q] at hge ⊢
      rw [hb.2.1]; omega
    · rw [if_neg q] at hge
      obtain ⟨a1, a2, a3⟩ := hb.1 (j / w) (by omega)
      have h5 : (j / w + 1) * w = j / w * w + w := Nat.succ_mul _ _
      omega
  have hd0 := head hk0 hlt0
  have hj0 : absA r w ats (j / w) = j := by
    rcases Nat.lt_or_ge (absA r w ats (j / w)) j with q | q
    · exfalso
      obtain ⟨i, hi, ei⟩ := ordf_sur hfm (K := K) (hpb.1.1 _ hd0.1)
      have hw1 := hpb.2.2 _ j q hj hd0.2.1
      rw [← ei, ej] at hw1
      have := ordf_srt hfm hcf hw1 hi
      exact hd0.2.2.2.2 ⟨i, this, ei⟩
    · omega
  -- the root is not worse than that run
  have hz := (ti_root ht hr4) (size + j / w) (Nat.lt_of_lt_of_le (by omega : 0 < size) (Nat.le_add_right _ _)) (by omega)
  rw [ht.1 (j / w) (by omega), if_pos ⟨hk0, hlt0⟩] at hz
  cases e1 : wn 1 with
  | none =>
    rw [e1] at hz
    have := hv_lt (kf := kfF fk sk ats (r + 1)) (k := j / w) (by omega)
    have e2 : hv (kfF fk sk ats (r + 1)) none = 2 ^ 60 := rfl
    omega
  | some k =>
    rw [e1] at hz
    obtain ⟨b1, b2, -⟩ := ti_val ht (2 * size) 1 (by omega) (by omega) (by omega) k e1
    have hdk := head b1 b2
    refine ⟨k, rfl, b1, b2, ?_⟩
    by_cases q : k = j / w
    · rw [q, hj0]; exact ej
    · exfalso
      have v1 : hv (kfF fk sk ats (r + 1)) (some k) = (kfF fk sk ats (r + 1) k).toInt * 4096 + k := rfl
      have v2 : hv (kfF fk sk ats (r + 1)) (some (j / w)) = (kfF fk sk ats (r + 1) (j / w)).toInt * 4096 + (j / w : Nat) := rfl
      rw [v1, v2, hdk.2.2.1, hd0.2.2.1, hj0] at hz
      obtain ⟨i, hi, ei⟩ := ordf_sur hfm (K := K) (hpb.1.1 _ hdk.1)
      have hic : c ≤ i := Nat.le_of_not_lt fun z => hdk.2.2.2.2 ⟨i, z, ei⟩
      have hne : i ≠ c := fun z => by
        have : pi (absA r w ats k) = pi j := by rw [← ei, z, ← ej]
        have := hpb.1.2.1 _ j hdk.1 hj this
        have h9 := hdk.2.1
        rw [this] at h9
        exact q h9.symm
      have hw1 := (ordf_ok K fed hfm).2 c i (by omega) hi
      rw [ei, ← ej] at hw1
      have m1 := hpb.2.1 _ hdk.1
      rw [hdk.2.1] at m1
      have m2 := hpb.2.1 j hj
      have n1 := hpb.1.1 _ hdk.1
      have n2 := hpb.1.1 j hj
      have c1 := blk_in hw0 (pi (absA r w ats k))
      have c2 := blk_in hw0 (pi j)
      rw [m1] at c1
      rw [m2] at c2
      unfold wt at hw1
      have hlt : k < j / w := by
        rcases Nat.lt_or_ge k (j / w) with z | z
        · exact z
        · exfalso; omega
      have h7 : (k + 1) * w ≤ (j / w) * w := Nat.mul_le_mul_right w (by omega)
      have h8 : (k + 1) * w = k * w + w := Nat.succ_mul _ _
      omega
theorem RepS.top {w S wl : Nat} {K V : Nat → Int32} {fed c : Nat} {fk fv sk sv : Nat → Int32} {ats ens : Nat → Nat} {wn : Nat → Option Nat} {held spilled runs size : Nat} (h : RepS w S wl K V fed c fk fv sk sv ats ens wn held spilled runs size) (hw0 : 0 < w) (hw : w ≤ 64) (hS : S * w ≤ 2000) (hS2 : S ≤ 2000) (hcf : c < fed) :
    ∃ k, wn 1 = some k ∧ k < runs ∧ ats k < ens k ∧ kfF fk sk ats runs k = K (ordf K fed c) ∧ kfF fv sv ats runs k = V (ordf K fed c) := by
  have hfl := h.fed_le
  obtain ⟨r, pi, ⟨h0, h1, h2, h3, h4, h5⟩, hpb, hd, hb, hc, ⟨hz, hrs⟩, ht⟩ := h
  subst h0
  obtain ⟨k, e1, e2, e3, e4⟩ := repS_win (S := S) (wl := wl) hw0 (by omega) h3 h2 hpb hd hb hc hrs (by omega) ht hcf
  have hd0 := repS_head (S := S) h3 h2 hd hb hc e2 e3
  exact ⟨k, e1, e2, e3, by rw [hd0.2.2.1, e4], by rw [hd0.2.2.2.1, e4]⟩
theorem RepS.bot {w S wl : Nat} {K V : Nat → Int32} {fed c : Nat} {fk fv sk sv : Nat → Int32} {ats ens : Nat → Nat} {wn : Nat → Option Nat} {held spilled runs size : Nat} (h : RepS w S wl K V fed c fk fv sk sv ats ens wn held spilled runs size) (hw0 : 0 < w) (hw : w ≤ 64) (hS : S * w ≤ 2000) (hcf : c = fed) : wn 1 = none := by
  have hfl := h.fed_le
  obtain ⟨r, pi, ⟨h0, h1, h2, h3, h4, h5⟩, hpb, hd, hb, hc, ⟨hz, hrs⟩, ht⟩ := h
  subst h0
  cases e1 : wn 1 with
  | none => rfl
  | some k =>
    exfalso
    obtain ⟨b1, b2, -⟩ := ti_val ht (2 * size) 1 (by omega) (by omega) (by omega) k e1
    have hd0 := repS_head (S := S) h3 h2 hd hb hc b1 b2
    obtain ⟨i, hi, ei⟩ := ordf_sur (n := fed) (by omega) (K := K) (hpb.1.1 _ hd0.1)
    exact hd0.2.2.2.2 ⟨i, by omega, ei⟩
/-- the winner's row goes -/
theorem RepS.pass {w S wl : Nat} {K V : Nat → Int32} {fed c : Nat} {fk fv sk sv : Nat → Int32} {ats ens : Nat → Nat} {wn wn' : Nat → Option Nat} {held spilled runs size : Nat} (h : RepS w S wl K V fed c fk fv sk sv ats ens wn held spilled runs size) (hw0 : 0 < w) (hw : w ≤ 64) (hS : S * w ≤ 2000) (hS2 : S ≤ 2000) (hcf : c < fed) {k : Nat} (hk : wn 1 = some k)
    (ht' : TI (va_up ats k (ats k + 1)) ens (kfF fk sk (va_up ats k (ats k + 1)) runs) runs size wn') : RepS w S wl K V fed (c + 1) fk fv sk sv (va_up ats k (ats k + 1)) ens wn' held spilled runs size := by
  have hfl := h.fed_le
  obtain ⟨r, pi, ⟨h0, h1, h2, h3, h4, h5⟩, hpb, hd, hb, hc, ⟨hz, hrs⟩, ht⟩ := h
  subst h0
  obtain ⟨k', e1, e2, e3, e4⟩ := repS_win (S := S) (wl := wl) hw0 (by omega) h3 h2 hpb hd hb hc hrs (by omega) ht hcf
  rw [hk] at e1
  cases e1
  have hd0 := repS_head (S := S) h3 h2 hd hb hc e2 e3
  have hA1 : absA r w (va_up ats k (ats k + 1)) k = absA r w ats k + 1 := by
    unfold absA
    rw [va_up_s]
    split <;> omega
  have hA2 : ∀ x, x ≠ k → absA r w (va_up ats k (ats k + 1)) x = absA r w ats x := by
    intro x hx
    unfold absA
    rw [va_up_o _ _ hx]
  refine ⟨r, pi, ⟨rfl, h1, h2, h3, h4, by omega⟩, hpb, hd, ⟨fun x hx => ?_, hb.2.1, ?_⟩, fun j hj => ?_, ⟨hz, hrs⟩, ht'⟩
  · by_cases q : x = k
    · subst q
      rw [va_up_s]
      obtain ⟨a1, a2, a3⟩ := hb.1 x hx
      exact ⟨a1, by omega, by omega⟩
    · rw [va_up_o _ _ q]; exact hb.1 x hx
  · by_cases q : r = k
    · subst q
      rw [va_up_s]
      rw [hb.2.1] at e3
      omega
    · rw [va_up_o _ _ q]; exact hb.2.2
  · have uniq : pi j = ordf K fed c → j = absA r w ats k := fun z => hpb.1.2.1 _ _ hj hd0.1 (z.trans e4.symm)
    by_cases q : j / w = k
    · rw [q, hA1]
      have h9 := hc j hj
      rw [q] at h9
      refine ⟨fun z => ?_, fun ⟨i, hi, ei⟩ => ?_⟩
      · by_cases q2 : j = absA r w ats k
        · exact ⟨c, by omega, by rw [q2, e4]⟩
        · obtain ⟨i, hi, ei⟩ := h9.mp (by omega)
          exact ⟨i, by omega, ei⟩
      · by_cases q2 : i = c
        · have := uniq (by rw [← ei, q2]); omega
        · have := h9.mpr ⟨i, by omega, ei⟩; omega
    · rw [hA2 _ q, hc j hj]
      refine ⟨fun ⟨i, hi, ei⟩ => ⟨i, by omega, ei⟩, fun ⟨i, hi, ei⟩ => ?_⟩
      by_cases q2 : i = c
      · exfalso
        have := uniq (by rw [← ei, q2])
        rw [this] at q
        exact q hd0.2.1
      · exact ⟨i, by omega, ei⟩
/-! how many runs have rows -/
def cntB (f : Nat → Bool) : Nat → Nat
  | 0 => 0
  | n + 1 => cntB f n + (if f n = true then 1 else 0)
theorem cnt_congr {f g : Nat → Bool} : ∀ n, (∀ k, k < n → f k = g k) → cntB f n = cntB g n := by
  intro n
  induction n with
  | zero => intro _; rfl
  | succ n ih => intro h; simp only [cntB]; rw [ih (fun k hk => h k (by omega)), h n (by omega)]
theorem cnt_more {f : Nat → Bool} {n : Nat} (h : ∀ k, n ≤ k → f k = false) : ∀ d, cntB f (n + d) = cntB f n := by
  intro d
  induction d with
  | zero => rfl
  | succ d ih =>
    show cntB f (n + d) + (if f (n + d) = true then 1 else 0) = cntB f n
    rw [ih, h (n + d) (by omega)]; rfl
theorem cnt_eq {f : Nat → Bool} {a b : Nat} (ha : ∀ k, a ≤ k → f k = false) (hb : ∀ k, b ≤ k → f k = false) : cntB f a = cntB f b := by
  rcases Nat.le_total a b with h | h
  · obtain ⟨d, rfl⟩ : ∃ d, b = a + d := ⟨b - a, by omega⟩
    exact (cnt_more ha d).symm
  · obtain ⟨d, rfl⟩ : ∃ d, a = b + d := ⟨a - b, by omega⟩
    exact cnt_more hb d
theorem cnt_le {f : Nat → Bool} : ∀ n, cntB f n ≤ n := by
  intro n
  induction n with
  | zero => exact Nat.le_refl _
  | succ n ih => simp only [cntB]; split <;> omega
theorem cnt_up {f : Nat → Bool} {k : Nat} (hf : f k = false) : ∀ n, k < n → cntB (va_up f k true) n = cntB f n + 1 := by
  intro n
  induction n with
  | zero => intro h; omega
  | succ n ih =>
    intro h
    simp only [cntB]
    by_cases q : n = k
    · subst q
      rw [va_up_s, hf, cnt_congr (g := f) n (fun j hj => va_up_o _ _ (by omega))]
      rfl
    · rw [ih (by omega), va_up_o _ _ q]; omega
theorem va_up_same {α : Type} {f : Nat → α} {k : Nat} {v : α} (h : f k = v) : va_up f k v = f := by
  funext j
  by_cases q : j = k
  · subst q; rw [va_up_s, h]
  · rw [va_up_o _ _ q]
def leftB (K : Nat → Int32) (fed c w k : Nat) : Bool := (List.range fed).any (fun i => decide (c ≤ i ∧ ordf K fed i / w = k))
theorem leftB_iff {K : Nat → Int32} {fed c w k : Nat} : leftB K fed c w k = true ↔ ∃ i, c ≤ i ∧ i < fed ∧ ordf K fed i / w = k := by
  unfold leftB
  rw [List.any_eq_true]
  constructor
  · rintro ⟨i, hi, h⟩
    have h2 := of_decide_eq_true h
    exact ⟨i, h2.1, List.mem_range.mp hi, h2.2⟩
  · rintro ⟨i, h1, h2, h3⟩
    exact ⟨i, List.mem_range.mpr h2, decide_eq_true ⟨h1, h3⟩⟩
theorem RepS.left {w S wl : Nat} {K V : Nat → Int32} {fed c : Nat} {fk fv sk sv : Nat → Int32} {ats ens : Nat → Nat} {wn : Nat → Option Nat} {held spilled runs size : Nat} (h : RepS w S wl K V fed c fk fv sk sv ats ens wn held spilled runs size) (hw0 : 0 < w) (hw : w ≤ 64) (hS : S * w ≤ 2000) {k : Nat} (hk : k < runs) : hasB ats ens (some k) = leftB K fed c w k := by
  have hfl := h.fed_le
  obtain ⟨r, pi, ⟨h0, h1, h2, h3, h4, h5⟩, hpb, hd, hb, hc, ⟨hz, hrs⟩, ht⟩ := h
  subst h0
  have hfm : fed ≤ 4096 := by omega
  have key : ats k < ens k ↔ ∃ i, c ≤ i ∧ i < fed ∧ ordf K fed i / w = k := by
    constructor
    · intro q
      have hd0 := repS_head (S := S) h3 h2 hd hb hc hk q
      obtain ⟨i, hi, ei⟩ := ordf_sur hfm (K := K) (hpb.1.1 _ hd0.1)
      exact ⟨i, Nat.le_of_not_lt fun z => hd0.2.2.2.2 ⟨i, z, ei⟩, hi, by rw [ei, hpb.2.1 _ hd0.1]; exact hd0.2.1⟩
    · rintro ⟨i, q1, q2, q3⟩
      obtain ⟨j, hj, ej⟩ := hpb.1.2.2 _ (ordf_lt hfm (K := K) q2)
      have hjk : j / w = k := by rw [← hpb.2.1 j hj, ej]; exact q3
      have hge : absA r w ats k ≤ j := by
        rcases Nat.lt_or_ge j (absA r w ats k) with z | z
        · obtain ⟨i', hi', ei'⟩ := (hc j hj).mp (by rw [hjk]; exact z)
          have := ordf_inj hfm (by omega) q2 (ei'.trans ej)
          omega
        · exact z
      have hjb := blk_in hw0 j
      rw [hjk] at hjb
      unfold absA at hge
      by_cases z : k = r
      · rw [if_pos z] at hge
        subst z
        rw [hb.2.1]; omega
      · rw [if_neg z] at hge
        obtain ⟨a1, a2, a3⟩ := hb.1 k (by omega)
        have h5 : (k + 1) * w = k * w + w := Nat.succ_mul _ _
        omega
  by_cases q : ats k < ens k
  · rw [leftB_iff.mpr (key.mp q)]; exact decide_eq_true q
  · cases e : leftB K fed c w k with
    | false => exact decide_eq_false q
    | true => exact absurd (key.mpr (leftB_iff.mp e)) q
end
section
/-! ===== ExternalSorter: reset, key, value, group, count, feed, feedMany (walks printed by gen/es3.py) ===== -/
/-- the cells of an ExternalSorter that its callers don't name: fk fv fp sk sv ats ens wn held spilled runs size -/
abbrev ESt : Type := (Nat → Int32) × (Nat → Int32) × (Nat → Int32) × (Nat → Int32) × (Nat → Int32) × (Nat → Nat) × (Nat → Nat) × (Nat → Option Nat) × Nat × Nat × Nat × Nat
def esU (cI : ClassId) (q : Nat → Nat) (w sp mo wl : Nat) (u : ESt) (fed : Nat) (sealed : Bool) (consumed : Nat) (current key value many sum least greatest : Int32) : va_W :=
  esW cI q w sp mo wl u.1 u.2.1 u.2.2.1 u.2.2.2.1 u.2.2.2.2.1 u.2.2.2.2.2.1 u.2.2.2.2.2.2.1 u.2.2.2.2.2.2.2.1 u.2.2.2.2.2.2.2.2.1 u.2.2.2.2.2.2.2.2.2.1 fed sealed u.2.2.2.2.2.2.2.2.2.2.1 u.2.2.2.2.2.2.2.2.2.2.2 consumed current key value many sum least greatest
/-- what the cells mean: K, V the pairs as fed, r runs spilled, c rows consumed -/
def RepE (w S wl : Nat) (K V : Nat → Int32) (fed r : Nat) (sealed : Bool) (c : Nat) (u : ESt) : Prop :=
  (sealed = false ∧ c = 0 ∧ u.2.2.2.2.2.2.2.2.2.2.1 = r ∧ RepU w S K V fed u.1 u.2.1 u.2.2.1 u.2.2.2.1 u.2.2.2.2.1 u.2.2.2.2.2.1 u.2.2.2.2.2.2.1 u.2.2.2.2.2.2.2.2.1 u.2.2.2.2.2.2.2.2.2.1 u.2.2.2.2.2.2.2.2.2.2.1) ∨
  (sealed = true ∧ u.2.2.2.2.2.2.2.2.2.2.1 = r + 1 ∧ RepS w S wl K V fed c u.1 u.2.1 u.2.2.2.1 u.2.2.2.2.1 u.2.2.2.2.2.1 u.2.2.2.2.2.2.1 u.2.2.2.2.2.2.2.1 u.2.2.2.2.2.2.2.2.1 u.2.2.2.2.2.2.2.2.2.1 u.2.2.2.2.2.2.2.2.2.2.1 u.2.2.2.2.2.2.2.2.2.2.2)
def Geo (w S wl : Nat) : Prop := 0 < w ∧ w ≤ 64 ∧ S * w ≤ 2000 ∧ S ≤ 2000 ∧ wl ≤ 4096 ∧ ∃ e, wl = 2 * 2 ^ e ∧ S + 1 ≤ 2 ^ e
theorem RepE.un {w S wl : Nat} {K V : Nat → Int32} {fed r c : Nat} {fk fv fp sk sv : Nat → Int32} {ats ens : Nat → Nat} {wn : Nat → Option Nat} {held spilled runs size : Nat} (h : RepE w S wl K V fed r false c (fk, fv, fp, sk, sv, ats, ens, wn, held, spilled, runs, size)) : c = 0 ∧ runs = r ∧ RepU w S K V fed fk fv fp sk sv ats ens held spilled runs := by
  rcases h with ⟨-, h1, h2, h3⟩ | ⟨h, -⟩
  · exact ⟨h1, h2, h3⟩
  · exact absurd h (by decide)
theorem RepE.se {w S wl : Nat} {K V : Nat → Int32} {fed r c : Nat} {fk fv fp sk sv : Nat → Int32} {ats ens : Nat → Nat} {wn : Nat → Option Nat} {held spilled runs size : Nat} (h : RepE w S wl K V fed r true c (fk, fv, fp, sk, sv, ats, ens, wn, held, spilled, runs, size)) : runs = r + 1 ∧ RepS w S wl K V fed c fk fv sk sv ats ens wn held spilled runs size := by
  rcases h with ⟨h, -⟩ | ⟨-, h1, h2⟩
  · exact absurd h (by decide)
  · exact ⟨h1, h2⟩
/-- behind a feed the number of spilled runs -/
def spF (w fed r : Nat) : Nat := if fed = r * w + w then r + 1 else r
def grpR (current many sum least greatest : Int32) (n : Nat) : Int32 := if current = 2 then (if n = 0 then many else if n = 1 then sum else if n = 2 then least else greatest) else 0
theorem nI_eq0 {n : Nat} (h : n < 2 ^ 31) : nI n = 0 ↔ n = 0 := nI_eq h (by decide)
section ES3
variable {l : Launch} {D : va_G} {cI cZ cJ : ClassId} {q : Nat → Nat} {w sp mo wl : Nat} {fk fv fp sk sv : Nat → Int32} {ats ens : Nat → Nat} {wn : Nat → Option Nat} {held spilled fed : Nat} {sealed : Bool} {runs size consumed : Nat} {current key value many sum least greatest : Int32} {sz : Nat}
variable {S r : Nat} {K V : Nat → Int32}
set_option maxHeartbeats 4000000 in
set_option maxRecDepth 100000 in
theorem c_ES_reset : MetV l y_ES_reset b_ES_reset 1 (rmF 0 0) D (tyL cI cZ cJ) [.ref (q 0)] (esW cI q w sp mo wl fk fv fp sk sv ats ens wn held spilled fed sealed runs size consumed current key value many sum least greatest) sz (fun (_ : Unit) => True) (fun _ => esW cI q w sp mo wl fk fv fp sk sv ats ens wn 0 0 0 false 0 size 0 0 key value many sum least greatest) := by
  refine MetV.of (by decide) (Nat.le_of_ble_eq_true rfl) ?_
  intro p e s m below meth c A ls C hnm hA hw hl
  have hx := C.1.1
  have hb := C.1.2.1
  have hl : lv_has ls 1 [(0, .ref (q 0))] := hl
  refine lv_aload_n hx hb d_ES_reset_0 rfl (lv_at hl 0 rfl) ?_
  refine lv_iconst (v := nI 0) hx hb d_ES_reset_1 (by decide) ?_
  refine es_put C hw rfl lk_ES_5 rfl rfl rfl (Nat.le_of_ble_eq_true rfl) (W1 := esW cI q w sp mo wl fk fv fp sk sv ats ens wn 0 spilled fed sealed runs size consumed current key value many sum least greatest) rfl d_ES_reset_2 (fun H locs hw => ?_)
  refine lv_aload_n hx hb d_ES_reset_5 rfl (lv_at hl 0 rfl) ?_
  refine lv_iconst (v := nI 0) hx hb d_ES_reset_6 (by decide) ?_
  refine es_put C hw rfl lk_ES_8 rfl rfl rfl (Nat.le_of_ble_eq_true rfl) (W1 := esW cI q w sp mo wl fk fv fp sk sv ats ens wn 0 0 fed sealed runs size consumed current key value many sum least greatest) rfl d_ES_reset_7 (fun H locs hw => ?_)
  refine lv_aload_n hx hb d_ES_reset_10 rfl (lv_at hl 0 rfl) ?_
  refine lv_iconst (v := nI 0) hx hb d_ES_reset_11 (by decide) ?_
  refine es_put C hw rfl lk_ES_9 rfl rfl rfl (Nat.le_of_ble_eq_true rfl) (W1 := esW cI q w sp mo wl fk fv fp sk sv ats ens wn 0 0 0 sealed runs size consumed current key value many sum least greatest) rfl d_ES_reset_12 (fun H locs hw => ?_)
  refine lv_aload_n hx hb d_ES_reset_15 rfl (lv_at hl 0 rfl) ?_
  refine lv_iconst (v := bI false) hx hb d_ES_reset_16 (by decide) ?_
  refine es_put C hw rfl lk_ES_10 rfl (bI_nar _) (bI_fit _) (Nat.le_of_ble_eq_true rfl) (W1 := esW cI q w sp mo wl fk fv fp sk sv ats ens wn 0 0 0 false runs size consumed current key value many sum least greatest) rfl d_ES_reset_17 (fun H locs hw => ?_)
  refine lv_aload_n hx hb d_ES_reset_20 rfl (lv_at hl 0 rfl) ?_
  refine lv_iconst (v := nI 0) hx hb d_ES_reset_21 (by decide) ?_
  refine es_put C hw rfl lk_ES_13 rfl rfl rfl (Nat.le_of_ble_eq_true rfl) (W1 := esW cI q w sp mo wl fk fv fp sk sv ats ens wn 0 0 0 false 0 size consumed current key value many sum least greatest) rfl d_ES_reset_22 (fun H locs hw => ?_)
  refine lv_aload_n hx hb d_ES_reset_25 rfl (lv_at hl 0 rfl) ?_
  refine lv_iconst (v := nI 0) hx hb d_ES_reset_26 (by decide) ?_
  refine es_put C hw rfl lk_ES_16 rfl rfl rfl (Nat.le_of_ble_eq_true rfl) (W1 := esW cI q w sp mo wl fk fv fp sk sv ats ens wn 0 0 0 false 0 size 0 current key value many sum least greatest) rfl d_ES_reset_27 (fun H locs hw => ?_)
  refine lv_aload_n hx hb d_ES_reset_30 rfl (lv_at hl 0 rfl) ?_
  refine lv_iconst (v := 0) hx hb d_ES_reset_31 (by decide) ?_
  refine es_put C hw rfl lk_ES_17 rfl rfl rfl (Nat.le_of_ble_eq_true rfl) (W1 := esW cI q w sp mo wl fk fv fp sk sv ats ens wn 0 0 0 false 0 size 0 0 key value many sum least greatest) rfl d_ES_reset_32 (fun H locs hw => ?_)
  exact zr_vret C () trivial hw d_ES_reset_35
set_option maxHeartbeats 4000000 in
set_option maxRecDepth 100000 in
theorem c_ES_key : MetI l y_ES_key b_ES_key 1 (some .int) (rmF 0 0) D (tyL cI cZ cJ) [.ref (q 0)] (esW cI q w sp mo wl fk fv fp sk sv ats ens wn held spilled fed sealed runs size consumed current key value many sum least greatest) sz (fun res (_ : Unit) => res = if current = 0 then 0 else key) (fun _ => esW cI q w sp mo wl fk fv fp sk sv ats ens wn held spilled fed sealed runs size consumed current key value many sum least greatest) := by
  refine MetI.of (by decide) (Nat.le_of_ble_eq_true rfl) ?_
  intro p e s m below meth c A ls C hnm hA hw hl
  have hx := C.1.1
  have hb := C.1.2.1
  have hl : lv_has ls 1 [(0, .ref (q 0))] := hl
  refine lv_aload_n hx hb d_ES_key_0 rfl (lv_at hl 0 rfl) ?_
  refine es_get C hw rfl lk_ES_17 rfl d_ES_key_1 ?_
  refine lv_if_ne (tgt := 11) hx hb d_ES_key_4 (by decide) (fun h4 => ?_) (fun h4 => ?_)
  · refine lv_aload_n hx hb d_ES_key_11 rfl (lv_at hl 0 rfl) ?_
    refine es_get C hw rfl lk_ES_18 rfl d_ES_key_12 ?_
    exact zr_iret C () (by first | (rw [if_pos h4]; done) | (rw [if_neg h4]; done)) hw d_ES_key_15
  · refine lv_iconst (v := 0) hx hb d_ES_key_7 (by decide) ?_
    refine lv_goto (tgt := 15) hx hb d_ES_key_8 (by decide) ?_
    exact zr_iret C () (by first | (rw [if_pos h4]; done) | (rw [if_neg h4]; done)) hw d_ES_key_15
set_option maxHeartbeats 4000000 in
set_option maxRecDepth 100000 in
theorem c_ES_value : MetI l y_ES_value b_ES_value 1 (some .int) (rmF 0 0) D (tyL cI cZ cJ) [.ref (q 0)] (esW cI q w sp mo wl fk fv fp sk sv ats ens wn held spilled fed sealed runs size consumed current key value many sum least greatest) sz (fun res (_ : Unit) => res = if current = 1 then value else 0) (fun _ => esW cI q w sp mo wl fk fv fp sk sv ats ens wn held spilled fed sealed runs size consumed current key value many sum least greatest) := by
  refine MetI.of (by decide) (Nat.le_of_ble_eq_true rfl) ?_
  intro p e s m below meth c A ls C hnm hA hw hl
  have hx := C.1.1
  have hb := C.1.2.1
  have hl : lv_has ls 1 [(0, .ref (q 0))] := hl
  refine lv_aload_n hx hb d_ES_value_0 rfl (lv_at hl 0 rfl) ?_
  refine es_get C hw rfl lk_ES_17 rfl d_ES_value_1 ?_
  refine lv_iconst (v := 1) hx hb d_ES_value_4 (by decide) ?_
  refine lv_icmp_ne (tgt := 15) hx hb d_ES_value_5 (by decide) (fun h5 => ?_) (fun h5 => ?_)
  · refine lv_iconst (v := 0) hx hb d_ES_value_15 (by decide) ?_
    exact zr_iret C () (by first | (rw [if_pos h5]; done) | (rw [if_neg h5]; done)) hw d_ES_value_16
  · refine lv_aload_n hx hb d_ES_value_8 rfl (lv_at hl 0 rfl) ?_
    refine es_get C hw rfl lk_ES_19 rfl d_ES_value_9 ?_
    refine lv_goto (tgt := 16) hx hb d_ES_value_12 (by decide) ?_
    exact zr_iret C () (by first | (rw [if_pos h5]; done) | (rw [if_neg h5]; done)) hw d_ES_value_16
set_option maxHeartbeats 4000000 in
set_option maxRecDepth 100000 in
theorem c_ES_group {n : Nat} (hn : n ≤ 3) : MetI l y_ES_group b_ES_group 2 (some .int) (rmF 0 0) D (tyL cI cZ cJ) [.ref (q 0), .int (nI n)] (esW cI q w sp mo wl fk fv fp sk sv ats ens wn held spilled fed sealed runs size consumed current key value many sum least greatest) sz (fun res (_ : Unit) => res = grpR current many sum least greatest n) (fun _ => esW cI q w sp mo wl fk fv fp sk sv ats ens wn held spilled fed sealed runs size consumed current key value many sum least greatest) := by
  refine MetI.of (by decide) (Nat.le_of_ble_eq_true rfl) ?_
  intro p e s m below meth c A ls C hnm hA hw hl
  have hx := C.1.1
  have hb := C.1.2.1
  have hl : lv_has ls 2 [(0, .ref (q 0)), (1, .int (nI n))] := hl
  refine lv_iload_n hx hb d_ES_group_0 rfl (lv_at hl 1 rfl) ?_
  refine lv_if_lt (tgt := 9) hx hb d_ES_group_1 (by decide) (fun h1 => ?_) (fun h1 => ?_)
  · exact absurd h1 (nI_pos (by omega))
  · refine lv_iload_n hx hb d_ES_group_4 rfl (lv_at hl 1 rfl) ?_
    refine lv_iconst (v := nI 3) hx hb d_ES_group_5 (by decide) ?_
    refine lv_icmp_le (tgt := 17) hx hb d_ES_group_6 (by decide) (fun h6 => ?_) (fun h6 => ?_)
    · refine lv_aload_n hx hb d_ES_group_17 rfl (lv_at hl 0 rfl) ?_
      refine es_get C hw rfl lk_ES_17 rfl d_ES_group_18 ?_
      refine lv_iconst (v := 2) hx hb d_ES_group_21 (by decide) ?_
      refine lv_icmp_eq (tgt := 27) hx hb d_ES_group_22 (by decide) (fun h22 => ?_) (fun h22 => ?_)
      · refine lv_iload_n hx hb d_ES_group_27 rfl (lv_at hl 1 rfl) ?_
        refine lv_if_ne (tgt := 38) hx hb d_ES_group_28 (by decide) (fun h28 => ?_) (fun h28 => ?_)
        · have h28 : ¬ n = 0 := fun z => h28 ((nI_eq0 (by omega)).mpr z)
          refine lv_iload_n hx hb d_ES_group_38 rfl (lv_at hl 1 rfl) ?_
          refine lv_iconst (v := nI 1) hx hb d_ES_group_39 (by decide) ?_
          refine zr_cne hx hb (by omega) (by omega) (tgt := 50) d_ES_group_40 (by decide) (fun h40 => ?_) (fun h40 => ?_)
          · refine lv_iload_n hx hb d_ES_group_50 rfl (lv_at hl 1 rfl) ?_
            refine lv_iconst (v := nI 2) hx hb d_ES_group_51 (by decide) ?_
            refine zr_cne hx hb (by omega) (by omega) (tgt := 62) d_ES_group_52 (by decide) (fun h52 => ?_) (fun h52 => ?_)
            · refine lv_aload_n hx hb d_ES_group_62 rfl (lv_at hl 0 rfl) ?_
              refine es_get C hw rfl lk_ES_23 rfl d_ES_group_63 ?_
              exact zr_iret C () (by unfold grpR; first | (rw [if_neg h22]; done) | (rw [if_pos h22, if_pos h28]; done) | (rw [if_pos h22, if_neg h28, if_pos h40]; done) | (rw [if_pos h22, if_neg h28, if_neg h40, if_pos h52]; done) | (rw [if_pos h22, if_neg h28, if_neg h40, if_neg h52]; done)) hw d_ES_group_66
            · refine lv_aload_n hx hb d_ES_group_55 rfl (lv_at hl 0 rfl) ?_
              refine es_get C hw rfl lk_ES_22 rfl d_ES_group_56 ?_
              refine lv_goto (tgt := 66) hx hb d_ES_group_59 (by decide) ?_
              exact zr_iret C () (by unfold grpR; first | (rw [if_neg h22]; done) | (rw [if_pos h22, if_pos h28]; done) | (rw [if_pos h22, if_neg h28, if_pos h40]; done) | (rw [if_pos h22, if_neg h28, if_neg h40, if_pos h52]; done) | (rw [if_pos h22, if_neg h28, if_neg h40, if_neg h52]; done)) hw d_ES_group_66
          · refine lv_aload_n hx hb d_ES_group_43 rfl (lv_at hl 0 rfl) ?_
            refine es_get C hw rfl lk_ES_21 rfl d_ES_group_44 ?_
            refine lv_goto (tgt := 66) hx hb d_ES_group_47 (by decide) ?_
            exact zr_iret C () (by unfold grpR; first | (rw [if_neg h22]; done) | (rw [if_pos h22, if_pos h28]; done) | (rw [if_pos h22, if_neg h28, if_pos h40]; done) | (rw [if_pos h22, if_neg h28, if_neg h40, if_pos h52]; done) | (rw [if_pos h22, if_neg h28, if_neg h40, if_neg h52]; done)) hw d_ES_group_66
        · have h28 : n = 0 := (nI_eq0 (by omega)).mp h28
          refine lv_aload_n hx hb d_ES_group_31 rfl (lv_at hl 0 rfl) ?_
          refine es_get C hw rfl lk_ES_20 rfl d_ES_group_32 ?_
          refine lv_goto (tgt := 66) hx hb d_ES_group_35 (by decide) ?_
          exact zr_iret C () (by unfold grpR; first | (rw [if_neg h22]; done) | (rw [if_pos h22, if_pos h28]; done) | (rw [if_pos h22, if_neg h28, if_pos h40]; done) | (rw [if_pos h22, if_neg h28, if_neg h40, if_pos h52]; done) | (rw [if_pos h22, if_neg h28, if_neg h40, if_neg h52]; done)) hw d_ES_group_66
      · refine lv_iconst (v := 0) hx hb d_ES_group_25 (by decide) ?_
        exact zr_iret C () (by unfold grpR; first | (rw [if_neg h22]; done) | (rw [if_pos h22, if_pos h28]; done) | (rw [if_pos h22, if_neg h28, if_pos h40]; done) | (rw [if_pos h22, if_neg h28, if_neg h40, if_pos h52]; done) | (rw [if_pos h22, if_neg h28, if_neg h40, if_neg h52]; done)) hw d_ES_group_26
    · exact absurd (nI_le (by omega) (by omega)) h6
theorem h_ES_feed : y_ES_feed.cls ≠ "java/lang/invoke/MethodHandle" ∧ y_ES_feed.cls ≠ "java/lang/invoke/VarHandle" ∧ (parseMethodDescriptor y_ES_feed.desc).map (fun d => d.parameters.length) = some 2 := by decide +kernel
theorem g_ES_ES_feed : GoodIn tb (wsV R_ES 92 y_ES_feed.cls y_ES_feed (wd y_ES_feed b_ES_feed 3 (some .int))) := gd_V (by decide +kernel)
set_option maxHeartbeats 4000000 in
set_option maxRecDepth 100000 in
theorem lp_ES_count {p : Program} {e : Env} {s : State} {m : MethodId} {args : Array Value} {below : List Frame} {meth : Method} {c : Code} {A : Nat → Prop} (C : Cx p m meth c b_ES_count 4 (some .int) s args R_ES) (hA : ∀ q : Nat, s.heap.size ≤ q → A q) (hv : ∀ k, k < runs → k < mo ∧ ats k < 2 ^ 31 ∧ ens k < 2 ^ 31) (hmo : mo ≤ 2001) (hr : runs ≤ 2001) : ∀ (n k : Nat) (H : Heap) (locs : List Loc) (ls : Array Slot), k + n = runs → Wd D (tyL cI cZ cJ) A s H locs (esW cI q w sp mo wl fk fv fp sk sv ats ens wn held spilled fed sealed runs size consumed current key value many sum least greatest) → lv_has ls 4 [(3, .int (nI k)), (2, .int (nI (cntB (fun j => hasB ats ens (some j)) k))), (0, .ref (q 0)), (1, .int (nI 3))] → W p l e (rmF 1 21) s m args below meth c H locs 0 0 (MQ below (va_Qi (fun res (_ : Unit) => res = nI (if 3 = 0 then fed else if 3 = 1 then spilled else if 3 = 2 then consumed else cntB (fun j => hasB ats ens (some j)) runs)) (cB D (tyL cI cZ cJ) A (fun (_ : Unit) => esW cI q w sp mo wl fk fv fp sk sv ats ens wn held spilled fed sealed runs size consumed current key value many sum least greatest)) A) args s 0 0 A) (F0 m 54 ls []) := by
  have hx := C.1.1
  have hb := C.1.2.1
  intro n
  induction n with
  | zero =>
    intro k H locs ls hk hw hl
    refine lv_iload_n hx hb d_ES_count_54 rfl (lv_at hl 0 rfl) ?_
    refine lv_aload_n hx hb d_ES_count_55 rfl (lv_at hl 2 rfl) ?_
    refine es_get C hw rfl lk_ES_13 rfl d_ES_count_56 ?_
    refine zr_cge hx hb (by omega) (by omega) (tgt := 84) d_ES_count_59 (by decide) (fun h59 => ?_) (fun h59 => ?_)
    · refine lv_iload_n hx hb d_ES_count_84 rfl (lv_at hl 1 rfl) ?_
      have ek : k = runs := hk
      exact zr_iret C () (by rw [ek]; rfl) hw d_ES_count_85
    · exact absurd h59 (by omega)
  | succ n ih =>
    intro k H locs ls hk hw hl
    refine lv_iload_n hx hb d_ES_count_54 rfl (lv_at hl 0 rfl) ?_
    refine lv_aload_n hx hb d_ES_count_55 rfl (lv_at hl 2 rfl) ?_
    refine es_get C hw rfl lk_ES_13 rfl d_ES_count_56 ?_
    refine zr_cge hx hb (by omega) (by omega) (tgt := 84) d_ES_count_59 (by decide) (fun h59 => ?_) (fun h59 => ?_)
    · exact absurd h59 (by omega)
    · refine lv_iload_n hx hb d_ES_count_62 rfl (lv_at hl 1 rfl) ?_
      refine lv_aload_n hx hb d_ES_count_63 rfl (lv_at hl 2 rfl) ?_
      refine lv_iload_n hx hb d_ES_count_64 rfl (lv_at hl 0 rfl) ?_
      refine zr_calli0 (As := [.int (nI k)]) (rest := [.int (nI (cntB (fun j => hasB ats ens (some j)) k))]) C hA hw hl.1 g_ES_ES_hasRow (c_ES_hasRow (o1 := some k) (fun j h => by cases h; exact hv k (by omega)) hmo) h_ES_hasRow ⟨Nat.le_of_ble_eq_true rfl, Nat.le_of_ble_eq_true rfl⟩ rfl rfl rfl (Nat.le_of_ble_eq_true rfl) d_ES_count_65 ⟨rfl, rfl⟩ ⟨Nat.zero_le _, Nat.zero_le _⟩ (fun r u H locs hres hw => ?_)
      have hw : Wd D (tyL cI cZ cJ) A s H locs (esW cI q w sp mo wl fk fv fp sk sv ats ens wn held spilled fed sealed runs size consumed current key value many sum least greatest) := hw
      refine zr_top (y := bI (hasB ats ens (some k))) hres ?_
      refine zr_beq hx hb (tgt := 75) d_ES_count_68 (by decide) (fun h68 => ?_) (fun h68 => ?_)
      · refine lv_iconst (v := nI 0) hx hb d_ES_count_75 (by decide) ?_
        refine zr_add hx hb d_ES_count_76 ?_
        refine zr_top (y := nI (cntB (fun j => hasB ats ens (some j)) (k + 1))) (congrArg nI (by simp only [cntB]; first | (rw [if_neg (by rw [h68]; decide)]; done) | (rw [if_pos h68]; done))) ?_
        refine lv_istore_n (lv' := [(2, .int (nI (cntB (fun j => hasB ats ens (some j)) (k + 1)))), (3, .int (nI k)), (0, .ref (q 0)), (1, .int (nI 3))]) hx hb d_ES_count_77 rfl hl (by decide) rfl (fun ls hl => ?_)
        refine lv_iinc (v := nI (k + 1)) (lv' := [(3, .int (nI (k + 1))), (2, .int (nI (cntB (fun j => hasB ats ens (some j)) (k + 1)))), (0, .ref (q 0)), (1, .int (nI 3))]) hx hb d_ES_count_78 hl (k := 1) rfl (nI_1 _) (by decide) rfl (fun ls hl => ?_)
        refine lv_goto (tgt := 54) hx hb d_ES_count_81 (by decide) ?_
        exact ih (k + 1) H locs ls (by omega) hw (lv_sub hl [0, 1, 2, 3] rfl)
      · refine lv_iconst (v := nI 1) hx hb d_ES_count_71 (by decide) ?_
        refine lv_goto (tgt := 76) hx hb d_ES_count_72 (by decide) ?_
        refine zr_add hx hb d_ES_count_76 ?_
        refine zr_top (y := nI (cntB (fun j => hasB ats ens (some j)) (k + 1))) (congrArg nI (by simp only [cntB]; first | (rw [if_neg (by rw [h68]; decide)]; done) | (rw [if_pos h68]; done))) ?_
        refine lv_istore_n (lv' := [(2, .int (nI (cntB (fun j => hasB ats ens (some j)) (k + 1)))), (3, .int (nI k)), (0, .ref (q 0)), (1, .int (nI 3))]) hx hb d_ES_count_77 rfl hl (by decide) rfl (fun ls hl => ?_)
        refine lv_iinc (v := nI (k + 1)) (lv' := [(3, .int (nI (k + 1))), (2, .int (nI (cntB (fun j => hasB ats ens (some j)) (k + 1)))), (0, .ref (q 0)), (1, .int (nI 3))]) hx hb d_ES_count_78 hl (k := 1) rfl (nI_1 _) (by decide) rfl (fun ls hl => ?_)
        refine lv_goto (tgt := 54) hx hb d_ES_count_81 (by decide) ?_
        exact ih (k + 1) H locs ls (by omega) hw (lv_sub hl [0, 1, 2, 3] rfl)
set_option maxHeartbeats 4000000 in
set_option maxRecDepth 100000 in
theorem c_ES_count {n : Nat} (hn : n ≤ 3) (hv : ∀ k, k < runs → k < mo ∧ ats k < 2 ^ 31 ∧ ens k < 2 ^ 31) (hmo : mo ≤ 2001) (hr : runs ≤ 2001) : MetI l y_ES_count b_ES_count 4 (some .int) (rmF 1 21) D (tyL cI cZ cJ) [.ref (q 0), .int (nI n)] (esW cI q w sp mo wl fk fv fp sk sv ats ens wn held spilled fed sealed runs size consumed current key value many sum least greatest) sz (fun res (_ : Unit) => res = nI (if n = 0 then fed else if n = 1 then spilled else if n = 2 then consumed else cntB (fun j => hasB ats ens (some j)) runs)) (fun _ => esW cI q w sp mo wl fk fv fp sk sv ats ens wn held spilled fed sealed runs size consumed current key value many sum least greatest) := by
  refine MetI.of (by decide) (Nat.le_of_ble_eq_true rfl) ?_
  intro p e s m below meth c A ls C hnm hA hw hl
  have hx := C.1.1
  have hb := C.1.2.1
  have hl : lv_has ls 4 [(0, .ref (q 0)), (1, .int (nI n))] := hl
  refine lv_iload_n hx hb d_ES_count_0 rfl (lv_at hl 1 rfl) ?_
  refine lv_if_lt (tgt := 9) hx hb d_ES_count_1 (by decide) (fun h1 => ?_) (fun h1 => ?_)
  · exact absurd h1 (nI_pos (by omega))
  · refine lv_iload_n hx hb d_ES_count_4 rfl (lv_at hl 1 rfl) ?_
    refine lv_iconst (v := nI 3) hx hb d_ES_count_5 (by decide) ?_
    refine lv_icmp_le (tgt := 17) hx hb d_ES_count_6 (by decide) (fun h6 => ?_) (fun h6 => ?_)
    · refine lv_iload_n hx hb d_ES_count_17 rfl (lv_at hl 1 rfl) ?_
      refine lv_iconst (v := nI 3) hx hb d_ES_count_18 (by decide) ?_
      refine zr_cge hx hb (by omega) (by omega) (tgt := 50) d_ES_count_19 (by decide) (fun h19 => ?_) (fun h19 => ?_)
      · refine lv_iconst (v := nI 0) hx hb d_ES_count_50 (by decide) ?_
        refine lv_istore_n (lv' := [(2, .int (nI 0)), (0, .ref (q 0)), (1, .int (nI n))]) hx hb d_ES_count_51 rfl hl (by decide) rfl (fun ls hl => ?_)
        refine lv_iconst (v := nI 0) hx hb d_ES_count_52 (by decide) ?_
        refine lv_istore_n (lv' := [(3, .int (nI 0)), (2, .int (nI 0)), (0, .ref (q 0)), (1, .int (nI n))]) hx hb d_ES_count_53 rfl hl (by decide) rfl (fun ls hl => ?_)
        have en : n = 3 := by omega
        subst en
        exact lp_ES_count C hA hv hmo hr runs 0 _ _ ls (by omega) hw (lv_sub hl [0, 1, 2, 3] rfl)
      · refine lv_iload_n hx hb d_ES_count_22 rfl (lv_at hl 1 rfl) ?_
        refine lv_if_ne (tgt := 33) hx hb d_ES_count_23 (by decide) (fun h23 => ?_) (fun h23 => ?_)
        · have h23 : ¬ n = 0 := fun z => h23 ((nI_eq0 (by omega)).mpr z)
          refine lv_iload_n hx hb d_ES_count_33 rfl (lv_at hl 1 rfl) ?_
          refine lv_iconst (v := nI 1) hx hb d_ES_count_34 (by decide) ?_
          refine zr_cne hx hb (by omega) (by omega) (tgt := 45) d_ES_count_35 (by decide) (fun h35 => ?_) (fun h35 => ?_)
          · refine lv_aload_n hx hb d_ES_count_45 rfl (lv_at hl 0 rfl) ?_
            refine es_get C hw rfl lk_ES_16 rfl d_ES_count_46 ?_
            exact zr_iret C () (congrArg nI (by first | (rw [if_pos h23]; done) | (rw [if_neg h23, if_pos h35]; done) | (rw [if_neg h23, if_neg h35, if_pos (by omega)]; done))) hw d_ES_count_49
          · refine lv_aload_n hx hb d_ES_count_38 rfl (lv_at hl 0 rfl) ?_
            refine es_get C hw rfl lk_ES_8 rfl d_ES_count_39 ?_
            refine lv_goto (tgt := 49) hx hb d_ES_count_42 (by decide) ?_
            exact zr_iret C () (congrArg nI (by first | (rw [if_pos h23]; done) | (rw [if_neg h23, if_pos h35]; done) | (rw [if_neg h23, if_neg h35, if_pos (by omega)]; done))) hw d_ES_count_49
        · have h23 : n = 0 := (nI_eq0 (by omega)).mp h23
          refine lv_aload_n hx hb d_ES_count_26 rfl (lv_at hl 0 rfl) ?_
          refine es_get C hw rfl lk_ES_9 rfl d_ES_count_27 ?_
          refine lv_goto (tgt := 49) hx hb d_ES_count_30 (by decide) ?_
          exact zr_iret C () (congrArg nI (by first | (rw [if_pos h23]; done) | (rw [if_neg h23, if_pos h35]; done) | (rw [if_neg h23, if_neg h35, if_pos (by omega)]; done))) hw d_ES_count_49
    · exact absurd (nI_le (by omega) (by omega)) h6
theorem h_ES_spill : y_ES_spill.cls ≠ "java/lang/invoke/MethodHandle" ∧ y_ES_spill.cls ≠ "java/lang/invoke/VarHandle" ∧ (parseMethodDescriptor y_ES_spill.desc).map (fun d => d.parameters.length) = some 0 := by decide +kernel
theorem g_ES_ES_spill : GoodIn tb (wsV R_ES 86 y_ES_spill.cls y_ES_spill (wd y_ES_spill b_ES_spill 2 none)) := gd_V (by decide +kernel)
set_option maxHeartbeats 4000000 in
set_option maxRecDepth 100000 in
theorem c_ES_feed_s {kx vy : Int32} : MetI l y_ES_feed b_ES_feed 3 (some .int) (rmF 4 89) D (tyL cI cZ cJ) [.ref (q 0), .int kx, .int vy] (esW cI q w (S * w) (S + 1) wl fk fv fp sk sv ats ens wn held spilled fed true runs size consumed current key value many sum least greatest) sz (fun res (_ : Unit) => res = -3) (fun _ => esW cI q w (S * w) (S + 1) wl fk fv fp sk sv ats ens wn held spilled fed true runs size consumed current key value many sum least greatest) := by
  refine MetI.of (by decide) (Nat.le_of_ble_eq_true rfl) ?_
  intro p e s m below meth c A ls C hnm hA hw hl
  have hx := C.1.1
  have hb := C.1.2.1
  have hl : lv_has ls 3 [(0, .ref (q 0)), (1, .int kx), (2, .int vy)] := hl
  refine lv_aload_n hx hb d_ES_feed_0 rfl (lv_at hl 0 rfl) ?_
  refine es_get C hw rfl lk_ES_10 rfl d_ES_feed_1 ?_
  refine zr_beq hx hb (tgt := 10) d_ES_feed_4 (by decide) (fun h4 => ?_) (fun h4 => ?_)
  · exact absurd h4 (by decide)
  · refine lv_bipush (v := (-3)) hx hb d_ES_feed_7 (by decide) ?_
    exact zr_iret C () rfl hw d_ES_feed_9
set_option maxHeartbeats 4000000 in
set_option maxRecDepth 100000 in
theorem c_ES_feed_f (hG : Geo w S wl) {kx vy : Int32} : MetI l y_ES_feed b_ES_feed 3 (some .int) (rmF 4 89) D (tyL cI cZ cJ) [.ref (q 0), .int kx, .int vy] (esW cI q w (S * w) (S + 1) wl fk fv fp sk sv ats ens wn held spilled (S * w + w) false runs size consumed current key value many sum least greatest) sz (fun res (_ : Unit) => res = -2) (fun _ => esW cI q w (S * w) (S + 1) wl fk fv fp sk sv ats ens wn held spilled (S * w + w) false runs size consumed current key value many sum least greatest) := by
  obtain ⟨hw0, hwb, hS, hS2, hwl, eG, hwl2, hSe⟩ := hG
  refine MetI.of (by decide) (Nat.le_of_ble_eq_true rfl) ?_
  intro p e s m below meth c A ls C hnm hA hw hl
  have hx := C.1.1
  have hb := C.1.2.1
  have hl : lv_has ls 3 [(0, .ref (q 0)), (1, .int kx), (2, .int vy)] := hl
  refine lv_aload_n hx hb d_ES_feed_0 rfl (lv_at hl 0 rfl) ?_
  refine es_get C hw rfl lk_ES_10 rfl d_ES_feed_1 ?_
  refine zr_beq hx hb (tgt := 10) d_ES_feed_4 (by decide) (fun h4 => ?_) (fun h4 => ?_)
  · refine lv_aload_n hx hb d_ES_feed_10 rfl (lv_at hl 0 rfl) ?_
    refine es_get C hw rfl lk_ES_9 rfl d_ES_feed_11 ?_
    refine lv_aload_n hx hb d_ES_feed_14 rfl (lv_at hl 0 rfl) ?_
    refine es_get C hw rfl lk_ES_1 rfl d_ES_feed_15 ?_
    refine zr_cne hx hb (by omega) (by omega) (tgt := 24) d_ES_feed_18 (by decide) (fun h18 => ?_) (fun h18 => ?_)
    · exact absurd rfl h18
    · refine lv_bipush (v := (-2)) hx hb d_ES_feed_21 (by decide) ?_
      exact zr_iret C () rfl hw d_ES_feed_23
  · exact absurd h4 (by decide)
set_option maxHeartbeats 4000000 in
set_option maxRecDepth 100000 in
theorem c_ES_feed_a (hG : Geo w S wl) {kx vy : Int32} (hrep : RepE w S wl K V fed r false consumed (fk, fv, fp, sk, sv, ats, ens, wn, held, spilled, runs, size)) (hfl : fed ≠ S * w + w) : MetI l y_ES_feed b_ES_feed 3 (some .int) (rmF 4 89) D (tyL cI cZ cJ) [.ref (q 0), .int kx, .int vy] (esW cI q w (S * w) (S + 1) wl fk fv fp sk sv ats ens wn held spilled fed false runs size consumed current key value many sum least greatest) sz (fun res (u : ESt) => res = 0 ∧ RepE w S wl (upd K fed kx) (upd V fed vy) (fed + 1) (spF w fed r) false 0 u) (fun u => esU cI q w (S * w) (S + 1) wl u (fed + 1) false consumed current key value many sum least greatest) := by
  obtain ⟨hw0, hwb, hS, hS2, hwl, eG, hwl2, hSe⟩ := hG
  refine MetI.of (by decide) (Nat.le_of_ble_eq_true rfl) ?_
  intro p e s m below meth c A ls C hnm hA hw hl
  have hx := C.1.1
  have hb := C.1.2.1
  have hl : lv_has ls 3 [(0, .ref (q 0)), (1, .int kx), (2, .int vy)] := hl
  obtain ⟨hc0, hrr, hU⟩ := hrep.un
  have hfl2 := hU.fed_le
  obtain ⟨hU1, hU2, hU3, hU4⟩ := hU.1
  have half : ∀ (fk fv fp sk sv : Nat → Int32) (ats ens : Nat → Nat) (held spilled runs : Nat) (H : Heap) (locs : List Loc), RepU w S K V fed fk fv fp sk sv ats ens held spilled runs → runs = spF w fed r → held < w → Wd D (tyL cI cZ cJ) A s H locs (esW cI q w (S * w) (S + 1) wl fk fv fp sk sv ats ens wn held spilled fed false runs size consumed current key value many sum least greatest) → W p l e (rmF 4 89) s m [.ref (q 0), .int kx, .int vy].toArray below meth c H locs 0 0 (MQ below (va_Qi (fun res (u : ESt) => res = 0 ∧ RepE w S wl (upd K fed kx) (upd V fed vy) (fed + 1) (spF w fed r) false 0 u) (cB D (tyL cI cZ cJ) A (fun u => esU cI q w (S * w) (S + 1) wl u (fed + 1) false consumed current key value many sum least greatest)) A) [.ref (q 0), .int kx, .int vy].toArray s 0 0 A) (F0 m 39 ls []) := by
    intro fk fv fp sk sv ats ens held spilled runs H locs hU hsp hhw hw
    refine lv_aload_n hx hb d_ES_feed_39 rfl (lv_at hl 0 rfl) ?_
    refine es_get C hw rfl lk_ES_2 rfl d_ES_feed_40 ?_
    refine lv_aload_n hx hb d_ES_feed_43 rfl (lv_at hl 0 rfl) ?_
    refine es_get C hw rfl lk_ES_5 rfl d_ES_feed_44 ?_
    refine lv_iload_n hx hb d_ES_feed_47 rfl (lv_at hl 1 rfl) ?_
    refine zr_ast C hw 1 0 rfl rfl (by omega) (by omega) rfl (W1 := esW cI q w (S * w) (S + 1) wl (upd fk held kx) fv fp sk sv ats ens wn held spilled fed false runs size consumed current key value many sum least greatest) rfl d_ES_feed_48 (fun H locs hw => ?_)
    refine lv_aload_n hx hb d_ES_feed_49 rfl (lv_at hl 0 rfl) ?_
    refine es_get C hw rfl lk_ES_3 rfl d_ES_feed_50 ?_
    refine lv_aload_n hx hb d_ES_feed_53 rfl (lv_at hl 0 rfl) ?_
    refine es_get C hw rfl lk_ES_5 rfl d_ES_feed_54 ?_
    refine lv_iload_n hx hb d_ES_feed_57 rfl (lv_at hl 2 rfl) ?_
    refine zr_ast C hw 2 0 rfl rfl (by omega) (by omega) rfl (W1 := esW cI q w (S * w) (S + 1) wl (upd fk held kx) (upd fv held vy) fp sk sv ats ens wn held spilled fed false runs size consumed current key value many sum least greatest) rfl d_ES_feed_58 (fun H locs hw => ?_)
    refine lv_aload_n hx hb d_ES_feed_59 rfl (lv_at hl 0 rfl) ?_
    refine es_get C hw rfl lk_ES_4 rfl d_ES_feed_60 ?_
    refine lv_aload_n hx hb d_ES_feed_63 rfl (lv_at hl 0 rfl) ?_
    refine es_get C hw rfl lk_ES_5 rfl d_ES_feed_64 ?_
    refine lv_aload_n hx hb d_ES_feed_67 rfl (lv_at hl 0 rfl) ?_
    refine es_get C hw rfl lk_ES_5 rfl d_ES_feed_68 ?_
    refine zr_ast C hw 3 0 rfl rfl (by omega) (by omega) rfl (W1 := esW cI q w (S * w) (S + 1) wl (upd fk held kx) (upd fv held vy) (upd fp held (nI held)) sk sv ats ens wn held spilled fed false runs size consumed current key value many sum least greatest) rfl d_ES_feed_71 (fun H locs hw => ?_)
    refine lv_aload_n hx hb d_ES_feed_72 rfl (lv_at hl 0 rfl) ?_
    refine lv_dup hx hb d_ES_feed_73 rfl ?_
    refine es_get C hw rfl lk_ES_5 rfl d_ES_feed_74 ?_
    refine lv_iconst (v := nI 1) hx hb d_ES_feed_77 (by decide) ?_
    refine zr_add hx hb d_ES_feed_78 ?_
    refine es_put C hw rfl lk_ES_5 rfl rfl rfl (Nat.le_of_ble_eq_true rfl) (W1 := esW cI q w (S * w) (S + 1) wl (upd fk held kx) (upd fv held vy) (upd fp held (nI held)) sk sv ats ens wn (held + 1) spilled fed false runs size consumed current key value many sum least greatest) rfl d_ES_feed_79 (fun H locs hw => ?_)
    refine lv_aload_n hx hb d_ES_feed_82 rfl (lv_at hl 0 rfl) ?_
    refine lv_dup hx hb d_ES_feed_83 rfl ?_
    refine es_get C hw rfl lk_ES_9 rfl d_ES_feed_84 ?_
    refine lv_iconst (v := nI 1) hx hb d_ES_feed_87 (by decide) ?_
    refine zr_add hx hb d_ES_feed_88 ?_
    refine es_put C hw rfl lk_ES_9 rfl rfl rfl (Nat.le_of_ble_eq_true rfl) (W1 := esW cI q w (S * w) (S + 1) wl (upd fk held kx) (upd fv held vy) (upd fp held (nI held)) sk sv ats ens wn (held + 1) spilled (fed + 1) false runs size consumed current key value many sum least greatest) rfl d_ES_feed_89 (fun H locs hw => ?_)
    refine lv_iconst (v := nI 0) hx hb d_ES_feed_92 (by decide) ?_
    exact zr_iret C (upd fk held kx, upd fv held vy, upd fp held (nI held), sk, sv, ats, ens, wn, held + 1, spilled, runs, size) ⟨rfl, Or.inl ⟨rfl, rfl, hsp, hU.add hhw kx vy⟩⟩ hw d_ES_feed_93
  refine lv_aload_n hx hb d_ES_feed_0 rfl (lv_at hl 0 rfl) ?_
  refine es_get C hw rfl lk_ES_10 rfl d_ES_feed_1 ?_
  refine zr_beq hx hb (tgt := 10) d_ES_feed_4 (by decide) (fun h4 => ?_) (fun h4 => ?_)
  · refine lv_aload_n hx hb d_ES_feed_10 rfl (lv_at hl 0 rfl) ?_
    refine es_get C hw rfl lk_ES_9 rfl d_ES_feed_11 ?_
    refine lv_aload_n hx hb d_ES_feed_14 rfl (lv_at hl 0 rfl) ?_
    refine es_get C hw rfl lk_ES_1 rfl d_ES_feed_15 ?_
    refine zr_cne hx hb (by omega) (by omega) (tgt := 24) d_ES_feed_18 (by decide) (fun h18 => ?_) (fun h18 => ?_)
    · refine lv_aload_n hx hb d_ES_feed_24 rfl (lv_at hl 0 rfl) ?_
      refine es_get C hw rfl lk_ES_5 rfl d_ES_feed_25 ?_
      refine lv_aload_n hx hb d_ES_feed_28 rfl (lv_at hl 0 rfl) ?_
      refine es_get C hw rfl lk_ES_0 rfl d_ES_feed_29 ?_
      refine zr_cne hx hb (by omega) (by omega) (tgt := 39) d_ES_feed_32 (by decide) (fun h32 => ?_) (fun h32 => ?_)
      · exact half _ _ _ _ _ _ _ _ _ _ _ _ hU (by unfold spF; rw [if_neg (by rw [← hrr]; omega)]; exact hrr) (by omega) hw
      · have hrl := hU.less hfl h32
        have hsw : (runs + 1) * w ≤ S * w := Nat.mul_le_mul_right w hrl
        have hsw2 : (runs + 1) * w = runs * w + w := Nat.succ_mul _ _
        refine lv_aload_n hx hb d_ES_feed_35 rfl (lv_at hl 0 rfl) ?_
        refine zr_callv0 (As := []) (rest := []) C hA hw hl.1 g_ES_ES_spill (c_ES_spill (by omega) hw0 hwb (by omega) (by omega) (by omega) hS) h_ES_spill ⟨Nat.le_of_ble_eq_true rfl, Nat.le_of_ble_eq_true rfl⟩ rfl rfl rfl (Nat.le_of_ble_eq_true rfl) d_ES_feed_36 ⟨rfl, rfl⟩ ⟨Nat.zero_le _, Nat.zero_le _⟩ (fun u H locs hres hw => ?_)
        have hw : Wd D (tyL cI cZ cJ) A s H locs (esW cI q w (S * w) (S + 1) wl (fun z => fk (hsort (ltB fk fp) held z)) (fun z => fv (hsort (ltB fk fp) held z)) (fun z => fp (hsort (ltB fk fp) held z)) (cpf (fun z => fk (hsort (ltB fk fp) held z)) sk spilled held) (cpf (fun z => fv (hsort (ltB fk fp) held z)) sv spilled held) (va_up ats runs spilled) (va_up ens runs (spilled + held)) wn 0 (spilled + held) fed false (runs + 1) size consumed current key value many sum least greatest) := hw
        exact half _ _ _ _ _ _ _ _ _ _ _ _ (hU.spill hw0 hwb h32 hrl _ _ _) (by unfold spF; rw [if_pos (by rw [← hrr]; omega), hrr]) (by omega) hw
    · exact absurd h18 hfl
  · exact absurd h4 (by decide)
/-- behind k feeds: what was fed, the spilled runs -/
def fmA (f : Nat → Int32) (fed : Nat) (g : Nat → Int32) : Nat → (Nat → Int32)
  | 0 => f
  | k + 1 => upd (fmA f fed g k) (fed + k) (g k)
def fmR (w fed r : Nat) : Nat → Nat
  | 0 => r
  | k + 1 => spF w (fed + k) (fmR w fed r k)
set_option maxHeartbeats 4000000 in
set_option maxRecDepth 100000 in
theorem c_ES_feedMany_s {kx stp vy : Int32} {n : Nat} (hn : n ≤ 200) : MetI l y_ES_feedMany b_ES_feedMany 6 (some .int) (rmF 5 111) D (tyL cI cZ cJ) [.ref (q 0), .int kx, .int stp, .int vy, .int (nI n)] (esW cI q w (S * w) (S + 1) wl fk fv fp sk sv ats ens wn held spilled fed true runs size consumed current key value many sum least greatest) sz (fun res (_ : Unit) => res = -3) (fun _ => esW cI q w (S * w) (S + 1) wl fk fv fp sk sv ats ens wn held spilled fed true runs size consumed current key value many sum least greatest) := by
  refine MetI.of (by decide) (Nat.le_of_ble_eq_true rfl) ?_
  intro p e s m below meth c A ls C hnm hA hw hl
  have hx := C.1.1
  have hb := C.1.2.1
  have hl : lv_has ls 6 [(0, .ref (q 0)), (1, .int kx), (2, .int stp), (3, .int vy), (4, .int (nI n))] := hl
  refine lv_iload hx hb d_ES_feedMany_0 (lv_at hl 4 rfl) ?_
  refine lv_if_lt (tgt := 13) hx hb d_ES_feedMany_2 (by decide) (fun h2 => ?_) (fun h2 => ?_)
  · exact absurd h2 (nI_pos (by omega))
  · refine lv_iload hx hb d_ES_feedMany_5 (lv_at hl 4 rfl) ?_
    refine lv_sipush (v := nI 200) hx hb d_ES_feedMany_7 (by decide) ?_
    refine lv_icmp_le (tgt := 21) hx hb d_ES_feedMany_10 (by decide) (fun h10 => ?_) (fun h10 => ?_)
    · refine lv_aload_n hx hb d_ES_feedMany_21 rfl (lv_at hl 0 rfl) ?_
      refine es_get C hw rfl lk_ES_10 rfl d_ES_feedMany_22 ?_
      refine zr_beq hx hb (tgt := 31) d_ES_feedMany_25 (by decide) (fun h25 => ?_) (fun h25 => ?_)
      · exact absurd h25 (by decide)
      · refine lv_bipush (v := (-3)) hx hb d_ES_feedMany_28 (by decide) ?_
        exact zr_iret C () rfl hw d_ES_feedMany_30
    · exact absurd (nI_le (by omega) (by omega)) h10
set_option maxHeartbeats 4000000 in
set_option maxRecDepth 100000 in
theorem lp_ES_feedMany {p : Program} {e : Env} {s : State} {m : MethodId} {args : Array Value} {below : List Frame} {meth : Method} {c : Code} {A : Nat → Prop} (hG : Geo w S wl) (C : Cx p m meth c b_ES_feedMany 6 (some .int) s args R_ES) (hA : ∀ q : Nat, s.heap.size ≤ q → A q) {kx stp vy : Int32} {n : Nat} (hn : n ≤ 200) (hfe : fed ≤ S * w + w) : ∀ (f k : Nat) (fk fv fp sk sv : Nat → Int32) (ats ens : Nat → Nat) (wn : Nat → Option Nat) (held spilled runs size : Nat) (H : Heap) (locs : List Loc) (ls : Array Slot), k + f = min n (S * w + w - fed) → RepE w S wl (fmA K fed (fun k => kx + nI k * stp) k) (fmA V fed (fun k => vy + nI k) k) (fed + k) (fmR w fed r k) false 0 (fk, fv, fp, sk, sv, ats, ens, wn, held, spilled, runs, size) → Wd D (tyL cI cZ cJ) A s H locs (esW cI q w (S * w) (S + 1) wl fk fv fp sk sv ats ens wn held spilled (fed + k) false runs size 0 current key value many sum least greatest) → lv_has ls 6 [(5, .int (nI k)), (0, .ref (q 0)), (1, .int kx), (2, .int stp), (3, .int vy), (4, .int (nI n))] → W p l e (rmF 5 111) s m args below meth c H locs 0 0 (MQ below (va_Qi (fun res (u : ESt) => res = nI (min n (S * w + w - fed)) ∧ RepE w S wl (fmA K fed (fun k => kx + nI k * stp) (min n (S * w + w - fed))) (fmA V fed (fun k => vy + nI k) (min n (S * w + w - fed))) (fed + min n (S * w + w - fed)) (fmR w fed r (min n (S * w + w - fed))) false 0 u) (cB D (tyL cI cZ cJ) A (fun u => esU cI q w (S * w) (S + 1) wl u (fed + min n (S * w + w - fed)) false 0 current key value many sum least greatest)) A) args s 0 0 A) (F0 m 34 ls []) := by
  have hx := C.1.1
  have hb := C.1.2.1
  have hG2 := hG
  obtain ⟨hw0, hwb, hS, hS2, hwl, eG, hwl2, hSe⟩ := hG
  intro f
  induction f with
  | zero =>
    intro k fk fv fp sk sv ats ens wn held spilled runs size H locs ls hk hrep hw hl
    have ek : k = min n (S * w + w - fed) := hk
    refine lv_iload hx hb d_ES_feedMany_34 (lv_at hl 0 rfl) ?_
    refine lv_iload hx hb d_ES_feedMany_36 (lv_at hl 5 rfl) ?_
    refine zr_cge hx hb (by omega) (by omega) (tgt := 64) d_ES_feedMany_38 (by decide) (fun h38 => ?_) (fun h38 => ?_)
    · refine lv_iload hx hb d_ES_feedMany_64 (lv_at hl 0 rfl) ?_
      exact zr_iret C (fk, fv, fp, sk, sv, ats, ens, wn, held, spilled, runs, size) (by rw [← ek]; exact ⟨rfl, hrep⟩) (by rw [← ek]; exact hw) d_ES_feedMany_66
    · have efull : fed + k = S * w + w := by omega
      have hw : Wd D (tyL cI cZ cJ) A s H locs (esW cI q w (S * w) (S + 1) wl fk fv fp sk sv ats ens wn held spilled (S * w + w) false runs size 0 current key value many sum least greatest) := by rw [← efull]; exact hw
      refine lv_aload_n hx hb d_ES_feedMany_41 rfl (lv_at hl 1 rfl) ?_
      refine lv_iload_n hx hb d_ES_feedMany_42 rfl (lv_at hl 2 rfl) ?_
      refine lv_iload hx hb d_ES_feedMany_43 (lv_at hl 0 rfl) ?_
      refine lv_iload_n hx hb d_ES_feedMany_45 rfl (lv_at hl 3 rfl) ?_
      refine lv_imul hx hb d_ES_feedMany_46 ?_
      refine lv_iadd hx hb d_ES_feedMany_47 ?_
      refine lv_iload_n hx hb d_ES_feedMany_48 rfl (lv_at hl 4 rfl) ?_
      refine lv_iload hx hb d_ES_feedMany_49 (lv_at hl 0 rfl) ?_
      refine lv_iadd hx hb d_ES_feedMany_51 ?_
      refine zr_calli0 (As := [.int (kx + ((nI k) * stp)), .int (vy + (nI k))]) (rest := []) C hA hw hl.1 g_ES_ES_feed (c_ES_feed_f hG2) h_ES_feed ⟨Nat.le_of_ble_eq_true rfl, Nat.le_of_ble_eq_true rfl⟩ rfl rfl rfl (Nat.le_of_ble_eq_true rfl) d_ES_feedMany_52 ⟨rfl, rfl⟩ ⟨Nat.zero_le _, Nat.zero_le _⟩ (fun r u H locs hres hw => ?_)
      have hw : Wd D (tyL cI cZ cJ) A s H locs (esW cI q w (S * w) (S + 1) wl fk fv fp sk sv ats ens wn held spilled (S * w + w) false runs size 0 current key value many sum least greatest) := hw
      refine zr_top (y := (-2)) hres ?_
      have hw : Wd D (tyL cI cZ cJ) A s H locs (esW cI q w (S * w) (S + 1) wl fk fv fp sk sv ats ens wn held spilled (fed + k) false runs size 0 current key value many sum least greatest) := by rw [efull]; exact hw
      refine lv_if_ne (tgt := 64) hx hb d_ES_feedMany_55 (by decide) (fun h55 => ?_) (fun h55 => ?_)
      · refine lv_iload hx hb d_ES_feedMany_64 (lv_at hl 0 rfl) ?_
        exact zr_iret C (fk, fv, fp, sk, sv, ats, ens, wn, held, spilled, runs, size) (by rw [← ek]; exact ⟨rfl, hrep⟩) (by rw [← ek]; exact hw) d_ES_feedMany_66
      · exact absurd h55 (by decide)
  | succ f ih =>
    intro k fk fv fp sk sv ats ens wn held spilled runs size H locs ls hk hrep hw hl
    refine lv_iload hx hb d_ES_feedMany_34 (lv_at hl 0 rfl) ?_
    refine lv_iload hx hb d_ES_feedMany_36 (lv_at hl 5 rfl) ?_
    refine zr_cge hx hb (by omega) (by omega) (tgt := 64) d_ES_feedMany_38 (by decide) (fun h38 => ?_) (fun h38 => ?_)
    · exact absurd h38 (by omega)
    · refine lv_aload_n hx hb d_ES_feedMany_41 rfl (lv_at hl 1 rfl) ?_
      refine lv_iload_n hx hb d_ES_feedMany_42 rfl (lv_at hl 2 rfl) ?_
      refine lv_iload hx hb d_ES_feedMany_43 (lv_at hl 0 rfl) ?_
      refine lv_iload_n hx hb d_ES_feedMany_45 rfl (lv_at hl 3 rfl) ?_
      refine lv_imul hx hb d_ES_feedMany_46 ?_
      refine lv_iadd hx hb d_ES_feedMany_47 ?_
      refine lv_iload_n hx hb d_ES_feedMany_48 rfl (lv_at hl 4 rfl) ?_
      refine lv_iload hx hb d_ES_feedMany_49 (lv_at hl 0 rfl) ?_
      refine lv_iadd hx hb d_ES_feedMany_51 ?_
      refine zr_calli0 (As := [.int (kx + ((nI k) * stp)), .int (vy + (nI k))]) (rest := []) C hA hw hl.1 g_ES_ES_feed (c_ES_feed_a hG2 hrep (by omega)) h_ES_feed ⟨Nat.le_of_ble_eq_true rfl, Nat.le_of_ble_eq_true rfl⟩ rfl rfl rfl (Nat.le_of_ble_eq_true rfl) d_ES_feedMany_52 ⟨rfl, rfl⟩ ⟨Nat.zero_le _, Nat.zero_le _⟩ (fun r u H locs hres hw => ?_)
      obtain ⟨fk, fv, fp, sk, sv, ats, ens, wn, held, spilled, runs, size⟩ := u
      have hw : Wd D (tyL cI cZ cJ) A s H locs (esW cI q w (S * w) (S + 1) wl fk fv fp sk sv ats ens wn held spilled (fed + k + 1) false runs size 0 current key value many sum least greatest) := hw
      obtain ⟨hres, hrep⟩ := hres
      refine zr_top (y := 0) hres ?_
      refine lv_if_ne (tgt := 64) hx hb d_ES_feedMany_55 (by decide) (fun h55 => ?_) (fun h55 => ?_)
      · exact absurd rfl h55
      · refine lv_iinc (v := nI (k + 1)) (lv' := [(5, .int (nI (k + 1))), (0, .ref (q 0)), (1, .int kx), (2, .int stp), (3, .int vy), (4, .int (nI n))]) hx hb d_ES_feedMany_58 hl (k := 0) rfl (nI_1 _) (by decide) rfl (fun ls hl => ?_)
        refine lv_goto (tgt := 34) hx hb d_ES_feedMany_61 (by decide) ?_
        exact ih (k + 1) fk fv fp sk sv ats ens wn held spilled runs size H locs ls (by omega) hrep hw hl
set_option maxHeartbeats 4000000 in
set_option maxRecDepth 100000 in
theorem c_ES_feedMany_u (hG : Geo w S wl) {kx stp vy : Int32} {n : Nat} (hn : n ≤ 200) (hrep : RepE w S wl K V fed r false 0 (fk, fv, fp, sk, sv, ats, ens, wn, held, spilled, runs, size)) : MetI l y_ES_feedMany b_ES_feedMany 6 (some .int) (rmF 5 111) D (tyL cI cZ cJ) [.ref (q 0), .int kx, .int stp, .int vy, .int (nI n)] (esW cI q w (S * w) (S + 1) wl fk fv fp sk sv ats ens wn held spilled fed false runs size 0 current key value many sum least greatest) sz (fun res (u : ESt) => res = nI (min n (S * w + w - fed)) ∧ RepE w S wl (fmA K fed (fun k => kx + nI k * stp) (min n (S * w + w - fed))) (fmA V fed (fun k => vy + nI k) (min n (S * w + w - fed))) (fed + min n (S * w + w - fed)) (fmR w fed r (min n (S * w + w - fed))) false 0 u) (fun u => esU cI q w (S * w) (S + 1) wl u (fed + min n (S * w + w - fed)) false 0 current key value many sum least greatest) := by
  refine MetI.of (by decide) (Nat.le_of_ble_eq_true rfl) ?_
  intro p e s m below meth c A ls C hnm hA hw hl
  have hx := C.1.1
  have hb := C.1.2.1
  have hl : lv_has ls 6 [(0, .ref (q 0)), (1, .int kx), (2, .int stp), (3, .int vy), (4, .int (nI n))] := hl
  have hfe := hrep.un.2.2.fed_le
  refine lv_iload hx hb d_ES_feedMany_0 (lv_at hl 4 rfl) ?_
  refine lv_if_lt (tgt := 13) hx hb d_ES_feedMany_2 (by decide) (fun h2 => ?_) (fun h2 => ?_)
  · exact absurd h2 (nI_pos (by omega))
  · refine lv_iload hx hb d_ES_feedMany_5 (lv_at hl 4 rfl) ?_
    refine lv_sipush (v := nI 200) hx hb d_ES_feedMany_7 (by decide) ?_
    refine lv_icmp_le (tgt := 21) hx hb d_ES_feedMany_10 (by decide) (fun h10 => ?_) (fun h10 => ?_)
    · refine lv_aload_n hx hb d_ES_feedMany_21 rfl (lv_at hl 0 rfl) ?_
      refine es_get C hw rfl lk_ES_10 rfl d_ES_feedMany_22 ?_
      refine zr_beq hx hb (tgt := 31) d_ES_feedMany_25 (by decide) (fun h25 => ?_) (fun h25 => ?_)
      · refine lv_iconst (v := nI 0) hx hb d_ES_feedMany_31 (by decide) ?_
        refine lv_istore (lv' := [(5, .int (nI 0)), (0, .ref (q 0)), (1, .int kx), (2, .int stp), (3, .int vy), (4, .int (nI n))]) hx hb d_ES_feedMany_32 hl (by decide) rfl (fun ls hl => ?_)
        exact lp_ES_feedMany hG C hA hn hfe (min n (S * w + w - fed)) 0 fk fv fp sk sv ats ens wn held spilled runs size _ _ ls (by omega) hrep hw (lv_sub hl [0, 1, 2, 3, 4, 5] rfl)
      · exact absurd h25 (by decide)
    · exact absurd (nI_le (by omega) (by omega)) h10
end ES3
end
section
/-! ===== ExternalSorter: seal, pass, nextRow, nextGroup, skipTo (walks printed by gen/es4.py) ===== -/
def leafF (ats ens : Nat → Nat) (runs k : Nat) : Option Nat := if k < runs ∧ ats k < ens k then some k else none
def cpo (f g : Nat → Option Nat) (dp n : Nat) : Nat → Option Nat := fun k => if dp ≤ k ∧ k < dp + n then f (k - dp) else g k
theorem cpo_0 (f g : Nat → Option Nat) (dp : Nat) : cpo f g dp 0 = g := by funext k; unfold cpo; rw [if_neg (by omega)]
theorem cpo_s {f g : Nat → Option Nat} {dp n : Nat} {o : Option Nat} (h : f n = o) : upd (wA (cpo f g dp n)) (dp + n) (wI o) = wA (cpo f g dp (n + 1)) := by
  rw [upd_wA, ← h]
  congr 1
  funext k
  simp only [va_up, cpo]
  by_cases h : k = dp + n
  · rw [if_pos h, if_pos (by omega), h, Nat.add_sub_cancel_left]
  · rw [if_neg h]
    by_cases h2 : dp ≤ k ∧ k < dp + n
    · rw [if_pos h2, if_pos (by omega)]
    · rw [if_neg h2, if_neg (by omega)]
theorem cpo_in (f g : Nat → Option Nat) {dp n k : Nat} (h : k < n) : cpo f g dp n (dp + k) = f k := by
  unfold cpo; rw [if_pos (by omega), Nat.add_sub_cancel_left]
theorem leaf_n1 {ats ens : Nat → Nat} {runs k : Nat} (h : runs ≤ k) : leafF ats ens runs k = none := by unfold leafF; rw [if_neg (by omega)]
theorem leaf_n2 {ats ens : Nat → Nat} {runs k : Nat} (h : hasB ats ens (some k) = false) : leafF ats ens runs k = none := by
  unfold leafF; rw [if_neg (fun z => of_decide_eq_false h z.2)]
theorem leaf_s {ats ens : Nat → Nat} {runs k : Nat} (h1 : k < runs) (h : hasB ats ens (some k) = true) : leafF ats ens runs k = some k := by
  unfold leafF; rw [if_pos ⟨h1, of_decide_eq_true h⟩]
theorem rb_up {r w held : Nat} {ats ens : Nat → Nat} (hb : RB r w held ats ens) {k : Nat} (hl : ats k < ens k) : RB r w held (va_up ats k (ats k + 1)) ens := by
  refine ⟨fun x hx => ?_, hb.2.1, ?_⟩
  · by_cases q : x = k
    · subst q
      rw [va_up_s]
      obtain ⟨a1, a2, a3⟩ := hb.1 x hx
      exact ⟨a1, by omega, by omega⟩
    · rw [va_up_o _ _ q]; exact hb.1 x hx
  · by_cases q : r = k
    · subst q
      rw [va_up_s]
      rw [hb.2.1] at hl
      omega
    · rw [va_up_o _ _ q]; exact hb.2.2
section RS
variable {w S wl : Nat} {K V : Nat → Int32} {fed c : Nat} {fk fv sk sv : Nat → Int32} {ats ens : Nat → Nat} {wn : Nat → Option Nat} {held spilled runs size : Nat}
theorem RepS.vk (h : RepS w S wl K V fed c fk fv sk sv ats ens wn held spilled runs size) (hw : w ≤ 64) (hS : S * w ≤ 2000) {k : Nat} (hk : k < runs) : VK w (S * w) (S + 1) ats ens runs k := by
  obtain ⟨r, pi, ⟨h0, h1, h2, h3, h4, h5⟩, hpb, hd, hb, -⟩ := h
  subst h0
  exact rb_vk hb h1 h2 hw hS hk
theorem RepS.vk2 (h : RepS w S wl K V fed c fk fv sk sv ats ens wn held spilled runs size) (hw : w ≤ 64) (hS : S * w ≤ 2000) {j : Nat} (hl : ats j < ens j) {k : Nat} (hk : k < runs) : VK w (S * w) (S + 1) (va_up ats j (ats j + 1)) ens runs k := by
  obtain ⟨r, pi, ⟨h0, h1, h2, h3, h4, h5⟩, hpb, hd, hb, -⟩ := h
  subst h0
  exact rb_vk (rb_up hb hl) h1 h2 hw hS hk
theorem RepS.nums (h : RepS w S wl K V fed c fk fv sk sv ats ens wn held spilled runs size) : 0 < runs ∧ runs ≤ S + 1 ∧ 2 * size ≤ wl ∧ runs ≤ size ∧ c ≤ fed ∧ TI ats ens (kfF fk sk ats runs) runs size wn := by
  obtain ⟨r, pi, ⟨h0, h1, h2, h3, h4, h5⟩, hpb, hd, hb, hc, ⟨hz, hrs⟩, ht⟩ := h
  exact ⟨by omega, by omega, hz, hrs, h5, ht⟩
theorem RepU.vks {fp : Nat → Int32} (h : RepU w S K V fed fk fv fp sk sv ats ens held spilled runs) (hw : w ≤ 64) (hS : S * w ≤ 2000) {k : Nat} (hk : k < runs + 1) : VK w (S * w) (S + 1) (va_up ats runs 0) (va_up ens runs held) (runs + 1) k := by
  obtain ⟨⟨h1, h2, h3, h4⟩, -, h5, h6⟩ := h
  refine rb_vk (r := runs) (held := held) ⟨fun x hx => ?_, va_up_s _ _ _, by rw [va_up_s]; exact Nat.zero_le _⟩ h1 h2 hw hS hk
  rw [va_up_o _ _ (by omega), va_up_o _ _ (by omega)]
  obtain ⟨a1, a2⟩ := h5 x hx
  exact ⟨a2, by omega, by rw [a1]; exact Nat.mul_le_mul_right w (by omega)⟩
end RS
/-! a group's sum, least, greatest, length; how many rows a skip takes: over the rows in their order -/
def gSum (V : Nat → Int32) (od : Nat → Nat) (c0 : Nat) : Nat → Int32
  | 0 => 0
  | i + 1 => gSum V od c0 i + V (od (c0 + i))
def gMin (V : Nat → Int32) (od : Nat → Nat) (c0 : Nat) : Nat → Int32
  | 0 => V (od c0)
  | i + 1 => if V (od (c0 + i)) < gMin V od c0 i then V (od (c0 + i)) else gMin V od c0 i
def gMax (V : Nat → Int32) (od : Nat → Nat) (c0 : Nat) : Nat → Int32
  | 0 => V (od c0)
  | i + 1 => if gMax V od c0 i < V (od (c0 + i)) then V (od (c0 + i)) else gMax V od c0 i
def glen (K : Nat → Int32) (od : Nat → Nat) (fed : Nat) (kx : Int32) : Nat → Nat → Nat
  | 0, _ => 0
  | f + 1, c => if c < fed ∧ K (od c) = kx then glen K od fed kx f (c + 1) + 1 else 0
def slen (K : Nat → Int32) (od : Nat → Nat) (fed : Nat) (kx : Int32) : Nat → Nat → Nat
  | 0, _ => 0
  | f + 1, c => if c < fed ∧ K (od c) < kx then slen K od fed kx f (c + 1) + 1 else 0
theorem glen_0 {K : Nat → Int32} {od : Nat → Nat} {fed : Nat} {kx : Int32} {c : Nat} (h : ¬ (c < fed ∧ K (od c) = kx)) : ∀ f, glen K od fed kx f c = 0 := by
  intro f; cases f with
  | zero => rfl
  | succ f => simp only [glen]; rw [if_neg h]
theorem glen_1 {K : Nat → Int32} {od : Nat → Nat} {fed : Nat} {kx : Int32} {c f : Nat} (h : c < fed) (h2 : K (od c) = kx) : glen K od fed kx (f + 1) c = glen K od fed kx f (c + 1) + 1 := by
  simp only [glen]; rw [if_pos ⟨h, h2⟩]
theorem slen_0 {K : Nat → Int32} {od : Nat → Nat} {fed : Nat} {kx : Int32} {c : Nat} (h : ¬ (c < fed ∧ K (od c) < kx)) : ∀ f, slen K od fed kx f c = 0 := by
  intro f; cases f with
  | zero => rfl
  | succ f => simp only [slen]; rw [if_neg h]
theorem slen_1 {K : Nat → Int32} {od : Nat → Nat} {fed : Nat} {kx : Int32} {c f : Nat} (h : c < fed) (h2 : K (od c) < kx) : slen K od fed kx (f + 1) c = slen K od fed kx f (c + 1) + 1 := by
  simp only [slen]; rw [if_pos ⟨h, h2⟩]
section ES4
variable {l : Launch} {D : va_G} {cI cZ cJ : ClassId} {q : Nat → Nat} {w sp mo wl : Nat} {fk fv fp sk sv : Nat → Int32} {ats ens : Nat → Nat} {wn : Nat → Option Nat} {held spilled fed : Nat} {sealed : Bool} {runs size consumed : Nat} {current key value many sum least greatest : Int32} {sz : Nat}
variable {S r : Nat} {K V : Nat → Int32}
theorem h_ES_play : y_ES_play.cls ≠ "java/lang/invoke/MethodHandle" ∧ y_ES_play.cls ≠ "java/lang/invoke/VarHandle" ∧ (parseMethodDescriptor y_ES_play.desc).map (fun d => d.parameters.length) = some 1 := by decide +kernel
theorem g_ES_ES_play : GoodIn tb (wsV R_ES 109 y_ES_play.cls y_ES_play (wd y_ES_play b_ES_play 2 none)) := gd_V (by decide +kernel)
set_option maxHeartbeats 4000000 in
set_option maxRecDepth 100000 in
theorem lp_ES_seal1 {p : Program} {e : Env} {s : State} {m : MethodId} {args : Array Value} {below : List Frame} {meth : Method} {c : Code} {A : Nat → Prop} (C : Cx p m meth c b_ES_seal 2 (some .int) s args R_ES) (hA : ∀ q : Nat, s.heap.size ≤ q → A q) {Q : State → Prop} {eG : Nat} (hre : runs ≤ 2 ^ eG) (he : 2 ^ eG ≤ 2048) (KK : ∀ (d : Nat) (H : Heap) (locs : List Loc) (ls : Array Slot), d ≤ eG → runs ≤ 2 ^ d → Wd D (tyL cI cZ cJ) A s H locs (esW cI q w sp mo wl fk fv fp sk sv ats ens wn held spilled fed sealed runs (2 ^ d) consumed current key value many sum least greatest) → lv_has ls 2 [(0, .ref (q 0))] → W p l e (rmF 3 68) s m args below meth c H locs 0 0 Q (F0 m 86 ls [])) : ∀ (n d : Nat) (H : Heap) (locs : List Loc) (ls : Array Slot), d + n = eG → Wd D (tyL cI cZ cJ) A s H locs (esW cI q w sp mo wl fk fv fp sk sv ats ens wn held spilled fed sealed runs (2 ^ d) consumed current key value many sum least greatest) → lv_has ls 2 [(0, .ref (q 0))] → W p l e (rmF 3 68) s m args below meth c H locs 0 0 Q (F0 m 62 ls []) := by
  have hx := C.1.1
  have hb := C.1.2.1
  intro n
  induction n with
  | zero =>
    intro d H locs ls hd hw hl
    have ed : d = eG := hd
    subst ed
    refine lv_aload_n hx hb d_ES_seal_62 rfl (lv_at hl 0 rfl) ?_
    refine es_get C hw rfl lk_ES_15 rfl d_ES_seal_63 ?_
    refine lv_aload_n hx hb d_ES_seal_66 rfl (lv_at hl 0 rfl) ?_
    refine es_get C hw rfl lk_ES_13 rfl d_ES_seal_67 ?_
    refine zr_cge hx hb (by omega) (by omega) (tgt := 86) d_ES_seal_70 (by decide) (fun h70 => ?_) (fun h70 => ?_)
    · exact KK d H locs ls (Nat.le_refl _) h70 hw hl
    · exact absurd h70 (by omega)
  | succ n ih =>
    intro d H locs ls hd hw hl
    have hpw : 2 ^ d ≤ 2 ^ eG := Nat.pow_le_pow_right (by decide) (by omega)
    refine lv_aload_n hx hb d_ES_seal_62 rfl (lv_at hl 0 rfl) ?_
    refine es_get C hw rfl lk_ES_15 rfl d_ES_seal_63 ?_
    refine lv_aload_n hx hb d_ES_seal_66 rfl (lv_at hl 0 rfl) ?_
    refine es_get C hw rfl lk_ES_13 rfl d_ES_seal_67 ?_
    refine zr_cge hx hb (by omega) (by omega) (tgt := 86) d_ES_seal_70 (by decide) (fun h70 => ?_) (fun h70 => ?_)
    · exact KK d H locs ls (by omega) h70 hw hl
    · refine lv_aload_n hx hb d_ES_seal_73 rfl (lv_at hl 0 rfl) ?_
      refine lv_dup hx hb d_ES_seal_74 rfl ?_
      refine es_get C hw rfl lk_ES_15 rfl d_ES_seal_75 ?_
      refine lv_iconst (v := nI 2) hx hb d_ES_seal_78 (by decide) ?_
      refine zr_mul hx hb d_ES_seal_79 ?_
      refine zr_top (y := nI (2 ^ (d + 1))) (congrArg nI (Nat.pow_succ ..).symm) ?_
      refine es_put C hw rfl lk_ES_15 rfl rfl rfl (Nat.le_of_ble_eq_true rfl) (W1 := esW cI q w sp mo wl fk fv fp sk sv ats ens wn held spilled fed sealed runs (2 ^ (d + 1)) consumed current key value many sum least greatest) rfl d_ES_seal_80 (fun H locs hw => ?_)
      refine lv_goto (tgt := 62) hx hb d_ES_seal_83 (by decide) ?_
      exact ih (d + 1) H locs ls (by omega) hw hl
set_option maxHeartbeats 4000000 in
set_option maxRecDepth 100000 in
theorem lp_ES_seal2 {p : Program} {e : Env} {s : State} {m : MethodId} {args : Array Value} {below : List Frame} {meth : Method} {c : Code} {A : Nat → Prop} (C : Cx p m meth c b_ES_seal 2 (some .int) s args R_ES) (hA : ∀ q : Nat, s.heap.size ≤ q → A q) {Q : State → Prop} (hv : ∀ k, k < runs → k < mo ∧ ats k < 2 ^ 31 ∧ ens k < 2 ^ 31) (hmo : mo ≤ 2001) (hr : runs ≤ 2001) (hz : 2 * size ≤ wl) (hwl : wl ≤ 4096) (KK : ∀ (H : Heap) (locs : List Loc) (ls : Array Slot), Wd D (tyL cI cZ cJ) A s H locs (esW cI q w sp mo wl fk fv fp sk sv ats ens (cpo (leafF ats ens runs) wn size size) held spilled fed sealed runs size consumed current key value many sum least greatest) → lv_has ls 2 [(0, .ref (q 0))] → W p l e (rmF 3 68) s m args below meth c H locs 0 0 Q (F0 m 134 ls [])) : ∀ (n k : Nat) (H : Heap) (locs : List Loc) (ls : Array Slot), k + n = size → Wd D (tyL cI cZ cJ) A s H locs (esW cI q w sp mo wl fk fv fp sk sv ats ens (cpo (leafF ats ens runs) wn size k) held spilled fed sealed runs size consumed current key value many sum least greatest) → lv_has ls 2 [(1, .int (nI k)), (0, .ref (q 0))] → W p l e (rmF 3 68) s m args below meth c H locs 0 0 Q (F0 m 88 ls []) := by
  have hx := C.1.1
  have hb := C.1.2.1
  intro n
  induction n with
  | zero =>
    intro k H locs ls hk hw hl
    have ek : k = size := hk
    subst ek
    refine lv_iload_n hx hb d_ES_seal_88 rfl (lv_at hl 0 rfl) ?_
    refine lv_aload_n hx hb d_ES_seal_89 rfl (lv_at hl 1 rfl) ?_
    refine es_get C hw rfl lk_ES_15 rfl d_ES_seal_90 ?_
    refine zr_cge hx hb (by omega) (by omega) (tgt := 134) d_ES_seal_93 (by decide) (fun h93 => ?_) (fun h93 => ?_)
    · exact KK H locs ls hw (lv_sub hl [1] rfl)
    · exact absurd h93 (by omega)
  | succ n ih =>
    intro k H locs ls hk hw hl
    refine lv_iload_n hx hb d_ES_seal_88 rfl (lv_at hl 0 rfl) ?_
    refine lv_aload_n hx hb d_ES_seal_89 rfl (lv_at hl 1 rfl) ?_
    refine es_get C hw rfl lk_ES_15 rfl d_ES_seal_90 ?_
    refine zr_cge hx hb (by omega) (by omega) (tgt := 134) d_ES_seal_93 (by decide) (fun h93 => ?_) (fun h93 => ?_)
    · exact absurd h93 (by omega)
    · refine lv_aload_n hx hb d_ES_seal_96 rfl (lv_at hl 1 rfl) ?_
      refine es_get C hw rfl lk_ES_14 rfl d_ES_seal_97 ?_
      refine lv_aload_n hx hb d_ES_seal_100 rfl (lv_at hl 1 rfl) ?_
      refine es_get C hw rfl lk_ES_15 rfl d_ES_seal_101 ?_
      refine lv_iload_n hx hb d_ES_seal_104 rfl (lv_at hl 0 rfl) ?_
      refine zr_add hx hb d_ES_seal_105 ?_
      refine lv_iload_n hx hb d_ES_seal_106 rfl (lv_at hl 0 rfl) ?_
      refine lv_aload_n hx hb d_ES_seal_107 rfl (lv_at hl 1 rfl) ?_
      refine es_get C hw rfl lk_ES_13 rfl d_ES_seal_108 ?_
      refine zr_cge hx hb (by omega) (by omega) (tgt := 126) d_ES_seal_111 (by decide) (fun h111 => ?_) (fun h111 => ?_)
      · refine lv_iconst (v := wI none) hx hb d_ES_seal_126 (by decide) ?_
        refine zr_ast C hw 8 0 rfl rfl (by omega) (by omega) (cpo_s (by first | exact leaf_n1 h111 | exact leaf_n2 h119 | exact leaf_s h111 h119)) (W1 := esW cI q w sp mo wl fk fv fp sk sv ats ens (cpo (leafF ats ens runs) wn size (k + 1)) held spilled fed sealed runs size consumed current key value many sum least greatest) rfl d_ES_seal_127 (fun H locs hw => ?_)
        refine lv_iinc (v := nI (k + 1)) (lv' := [(1, .int (nI (k + 1))), (0, .ref (q 0))]) hx hb d_ES_seal_128 hl (k := 0) rfl (nI_1 _) (by decide) rfl (fun ls hl => ?_)
        refine lv_goto (tgt := 88) hx hb d_ES_seal_131 (by decide) ?_
        exact ih (k + 1) H locs ls (by omega) hw hl
      · refine lv_aload_n hx hb d_ES_seal_114 rfl (lv_at hl 1 rfl) ?_
        refine lv_iload_n hx hb d_ES_seal_115 rfl (lv_at hl 0 rfl) ?_
        refine zr_calli0 (As := [.int (nI k)]) (rest := [.int (nI (size + k)), .ref (q 8)]) C hA hw hl.1 g_ES_ES_hasRow (c_ES_hasRow (o1 := some k) (fun j h => by cases h; exact hv k h111) hmo) h_ES_hasRow ⟨Nat.le_of_ble_eq_true rfl, Nat.le_of_ble_eq_true rfl⟩ rfl rfl rfl (Nat.le_of_ble_eq_true rfl) d_ES_seal_116 ⟨rfl, rfl⟩ ⟨Nat.zero_le _, Nat.zero_le _⟩ (fun r u H locs hres hw => ?_)
        have hw : Wd D (tyL cI cZ cJ) A s H locs (esW cI q w sp mo wl fk fv fp sk sv ats ens (cpo (leafF ats ens runs) wn size k) held spilled fed sealed runs size consumed current key value many sum least greatest) := hw
        refine zr_top (y := bI (hasB ats ens (some k))) hres ?_
        refine zr_beq hx hb (tgt := 126) d_ES_seal_119 (by decide) (fun h119 => ?_) (fun h119 => ?_)
        · refine lv_iconst (v := wI none) hx hb d_ES_seal_126 (by decide) ?_
          refine zr_ast C hw 8 0 rfl rfl (by omega) (by omega) (cpo_s (by first | exact leaf_n1 h111 | exact leaf_n2 h119 | exact leaf_s h111 h119)) (W1 := esW cI q w sp mo wl fk fv fp sk sv ats ens (cpo (leafF ats ens runs) wn size (k + 1)) held spilled fed sealed runs size consumed current key value many sum least greatest) rfl d_ES_seal_127 (fun H locs hw => ?_)
          refine lv_iinc (v := nI (k + 1)) (lv' := [(1, .int (nI (k + 1))), (0, .ref (q 0))]) hx hb d_ES_seal_128 hl (k := 0) rfl (nI_1 _) (by decide) rfl (fun ls hl => ?_)
          refine lv_goto (tgt := 88) hx hb d_ES_seal_131 (by decide) ?_
          exact ih (k + 1) H locs ls (by omega) hw hl
        · refine lv_iload_n hx hb d_ES_seal_122 rfl (lv_at hl 0 rfl) ?_
          refine zr_top (y := wI (some k)) rfl ?_
          refine lv_goto (tgt := 127) hx hb d_ES_seal_123 (by decide) ?_
          refine zr_ast C hw 8 0 rfl rfl (by omega) (by omega) (cpo_s (by first | exact leaf_n1 h111 | exact leaf_n2 h119 | exact leaf_s h111 h119)) (W1 := esW cI q w sp mo wl fk fv fp sk sv ats ens (cpo (leafF ats ens runs) wn size (k + 1)) held spilled fed sealed runs size consumed current key value many sum least greatest) rfl d_ES_seal_127 (fun H locs hw => ?_)
          refine lv_iinc (v := nI (k + 1)) (lv' := [(1, .int (nI (k + 1))), (0, .ref (q 0))]) hx hb d_ES_seal_128 hl (k := 0) rfl (nI_1 _) (by decide) rfl (fun ls hl => ?_)
          refine lv_goto (tgt := 88) hx hb d_ES_seal_131 (by decide) ?_
          exact ih (k + 1) H locs ls (by omega) hw hl
set_option maxHeartbeats 4000000 in
set_option maxRecDepth 100000 in
theorem lp_ES_seal3 {p : Program} {e : Env} {s : State} {m : MethodId} {args : Array Value} {below : List Frame} {meth : Method} {c : Code} {A : Nat → Prop} (C : Cx p m meth c b_ES_seal 2 (some .int) s args R_ES) (hA : ∀ q : Nat, s.heap.size ≤ q → A q) {Q : State → Prop} (hv : ∀ k, k < runs → VK w sp mo ats ens runs k) (hmo : mo ≤ 2001) (hr0 : 0 < runs) (hr : runs ≤ 2001) (hz : 2 * size ≤ wl) (hwl : wl ≤ 4096) (hwb : w ≤ 64) (hsp : sp ≤ 2000) (KK : ∀ (wn : Nat → Option Nat) (H : Heap) (locs : List Loc) (ls : Array Slot), TI ats ens (kfF fk sk ats runs) runs size wn → Wd D (tyL cI cZ cJ) A s H locs (esW cI q w sp mo wl fk fv fp sk sv ats ens wn held spilled fed sealed runs size consumed current key value many sum least greatest) → W p l e (rmF 3 68) s m args below meth c H locs 0 0 Q (F0 m 156 ls [])) : ∀ (n : Nat) (wn : Nat → Option Nat) (H : Heap) (locs : List Loc) (ls : Array Slot), n < size → SI ats ens (kfF fk sk ats runs) runs size n wn → Wd D (tyL cI cZ cJ) A s H locs (esW cI q w sp mo wl fk fv fp sk sv ats ens wn held spilled fed sealed runs size consumed current key value many sum least greatest) → lv_has ls 2 [(1, .int (nI n)), (0, .ref (q 0))] → W p l e (rmF 3 68) s m args below meth c H locs 0 0 Q (F0 m 141 ls []) := by
  have hx := C.1.1
  have hb := C.1.2.1
  intro n
  induction n with
  | zero =>
    intro wn H locs ls hn hI hw hl
    refine lv_iload_n hx hb d_ES_seal_141 rfl (lv_at hl 0 rfl) ?_
    refine zr_cle0 hx hb (by omega) (tgt := 156) d_ES_seal_142 (by decide) (fun h142 => ?_) (fun h142 => ?_)
    · exact KK wn H locs ls (si_end hI) hw
    · exact absurd h142 (by omega)
  | succ n ih =>
    intro wn H locs ls hn hI hw hl
    refine lv_iload_n hx hb d_ES_seal_141 rfl (lv_at hl 0 rfl) ?_
    refine zr_cle0 hx hb (by omega) (tgt := 156) d_ES_seal_142 (by decide) (fun h142 => ?_) (fun h142 => ?_)
    · exact absurd h142 (by omega)
    · refine lv_aload_n hx hb d_ES_seal_145 rfl (lv_at hl 1 rfl) ?_
      refine lv_iload_n hx hb d_ES_seal_146 rfl (lv_at hl 0 rfl) ?_
      refine zr_callv0 (As := [.int (nI (n + 1))]) (rest := []) C hA hw hl.1 g_ES_ES_play (c_ES_play (nd := n + 1) (by omega) (fun k h => hv k (hI.2.2 _ (by omega) (by omega) k h)) (fun k h => hv k (hI.2.2 _ (by omega) (by omega) k h)) hr0 hr hmo hwb hsp hwl) h_ES_play ⟨Nat.le_of_ble_eq_true rfl, Nat.le_of_ble_eq_true rfl⟩ rfl rfl rfl (Nat.le_of_ble_eq_true rfl) d_ES_seal_147 ⟨rfl, rfl⟩ ⟨Nat.zero_le _, Nat.zero_le _⟩ (fun u H locs hres hw => ?_)
      have hw : Wd D (tyL cI cZ cJ) A s H locs (esW cI q w sp mo wl fk fv fp sk sv ats ens (va_up wn (n + 1) (pickF ats ens (kfF fk sk ats runs) (wn (2 * (n + 1))) (wn (2 * (n + 1) + 1)))) held spilled fed sealed runs size consumed current key value many sum least greatest) := hw
      refine lv_iinc (v := nI n) (lv' := [(1, .int (nI n)), (0, .ref (q 0))]) hx hb d_ES_seal_150 hl (k := 0) rfl (pk_m1 n) (by decide) rfl (fun ls hl => ?_)
      refine lv_goto (tgt := 141) hx hb d_ES_seal_153 (by decide) ?_
      exact ih _ H locs ls (by omega) (si_step hI hn) hw hl
set_option maxHeartbeats 4000000 in
set_option maxRecDepth 100000 in
theorem c_ES_seal_s : MetI l y_ES_seal b_ES_seal 2 (some .int) (rmF 3 68) D (tyL cI cZ cJ) [.ref (q 0)] (esW cI q w (S * w) (S + 1) wl fk fv fp sk sv ats ens wn held spilled fed true runs size consumed current key value many sum least greatest) sz (fun res (_ : Unit) => res = -3) (fun _ => esW cI q w (S * w) (S + 1) wl fk fv fp sk sv ats ens wn held spilled fed true runs size consumed current key value many sum least greatest) := by
  refine MetI.of (by decide) (Nat.le_of_ble_eq_true rfl) ?_
  intro p e s m below meth c A ls C hnm hA hw hl
  have hx := C.1.1
  have hb := C.1.2.1
  have hl : lv_has ls 2 [(0, .ref (q 0))] := hl
  refine lv_aload_n hx hb d_ES_seal_0 rfl (lv_at hl 0 rfl) ?_
  refine es_get C hw rfl lk_ES_10 rfl d_ES_seal_1 ?_
  refine zr_beq hx hb (tgt := 10) d_ES_seal_4 (by decide) (fun h4 => ?_) (fun h4 => ?_)
  · exact absurd h4 (by decide)
  · refine lv_bipush (v := (-3)) hx hb d_ES_seal_7 (by decide) ?_
    exact zr_iret C () rfl hw d_ES_seal_9
set_option maxHeartbeats 4000000 in
set_option maxRecDepth 100000 in
theorem c_ES_seal_u (hG : Geo w S wl) (hrep : RepE w S wl K V fed r false 0 (fk, fv, fp, sk, sv, ats, ens, wn, held, spilled, runs, size)) : MetI l y_ES_seal b_ES_seal 2 (some .int) (rmF 3 68) D (tyL cI cZ cJ) [.ref (q 0)] (esW cI q w (S * w) (S + 1) wl fk fv fp sk sv ats ens wn held spilled fed false runs size 0 current key value many sum least greatest) sz (fun res (u : ESt) => res = 0 ∧ RepE w S wl K V fed r true 0 u) (fun u => esU cI q w (S * w) (S + 1) wl u fed true 0 0 key value many sum least greatest) := by
  obtain ⟨hw0, hwb, hS, hS2, hwl, eG, hwl2, hSe⟩ := hG
  refine MetI.of (by decide) (Nat.le_of_ble_eq_true rfl) ?_
  intro p e s m below meth c A ls C hnm hA hw hl
  have hx := C.1.1
  have hb := C.1.2.1
  have hl : lv_has ls 2 [(0, .ref (q 0))] := hl
  obtain ⟨-, hrr, hU⟩ := hrep.un
  obtain ⟨hU1, hU2, hU3, hU4⟩ := hU.1
  have hvk := fun (k : Nat) (hk : k < runs + 1) => hU.vks hwb hS hk
  refine lv_aload_n hx hb d_ES_seal_0 rfl (lv_at hl 0 rfl) ?_
  refine es_get C hw rfl lk_ES_10 rfl d_ES_seal_1 ?_
  refine zr_beq hx hb (tgt := 10) d_ES_seal_4 (by decide) (fun h4 => ?_) (fun h4 => ?_)
  · refine lv_aload_n hx hb d_ES_seal_10 rfl (lv_at hl 0 rfl) ?_
    refine lv_iconst (v := bI true) hx hb d_ES_seal_11 (by decide) ?_
    refine es_put C hw rfl lk_ES_10 rfl (bI_nar _) (bI_fit _) (Nat.le_of_ble_eq_true rfl) (W1 := esW cI q w (S * w) (S + 1) wl fk fv fp sk sv ats ens wn held spilled fed true runs size 0 current key value many sum least greatest) rfl d_ES_seal_12 (fun H locs hw => ?_)
    refine lv_aload_n hx hb d_ES_seal_15 rfl (lv_at hl 0 rfl) ?_
    refine lv_iconst (v := 0) hx hb d_ES_seal_16 (by decide) ?_
    refine es_put C hw rfl lk_ES_17 rfl rfl rfl (Nat.le_of_ble_eq_true rfl) (W1 := esW cI q w (S * w) (S + 1) wl fk fv fp sk sv ats ens wn held spilled fed true runs size 0 0 key value many sum least greatest) rfl d_ES_seal_17 (fun H locs hw => ?_)
    refine lv_aload_n hx hb d_ES_seal_20 rfl (lv_at hl 0 rfl) ?_
    refine zr_callv0 (As := []) (rest := []) C hA hw hl.1 g_ES_ES_sort (c_ES_sort hU2 hw0 hwb) h_ES_sort ⟨Nat.le_of_ble_eq_true rfl, Nat.le_of_ble_eq_true rfl⟩ rfl rfl rfl (Nat.le_of_ble_eq_true rfl) d_ES_seal_21 ⟨rfl, rfl⟩ ⟨Nat.zero_le _, Nat.zero_le _⟩ (fun u H locs hres hw => ?_)
    have hw : Wd D (tyL cI cZ cJ) A s H locs (esW cI q w (S * w) (S + 1) wl (fun z => fk (hsort (ltB fk fp) held z)) (fun z => fv (hsort (ltB fk fp) held z)) (fun z => fp (hsort (ltB fk fp) held z)) sk sv ats ens wn held spilled fed true runs size 0 0 key value many sum least greatest) := hw
    refine lv_aload_n hx hb d_ES_seal_24 rfl (lv_at hl 0 rfl) ?_
    refine es_get C hw rfl lk_ES_11 rfl d_ES_seal_25 ?_
    refine lv_aload_n hx hb d_ES_seal_28 rfl (lv_at hl 0 rfl) ?_
    refine es_get C hw rfl lk_ES_13 rfl d_ES_seal_29 ?_
    refine lv_iconst (v := nI 0) hx hb d_ES_seal_32 (by decide) ?_
    refine zr_ast C hw 6 0 rfl rfl (by omega) (by omega) (upd_nA _ _ _) (W1 := esW cI q w (S * w) (S + 1) wl (fun z => fk (hsort (ltB fk fp) held z)) (fun z => fv (hsort (ltB fk fp) held z)) (fun z => fp (hsort (ltB fk fp) held z)) sk sv (va_up ats runs 0) ens wn held spilled fed true runs size 0 0 key value many sum least greatest) rfl d_ES_seal_33 (fun H locs hw => ?_)
    refine lv_aload_n hx hb d_ES_seal_34 rfl (lv_at hl 0 rfl) ?_
    refine es_get C hw rfl lk_ES_12 rfl d_ES_seal_35 ?_
    refine lv_aload_n hx hb d_ES_seal_38 rfl (lv_at hl 0 rfl) ?_
    refine es_get C hw rfl lk_ES_13 rfl d_ES_seal_39 ?_
    refine lv_aload_n hx hb d_ES_seal_42 rfl (lv_at hl 0 rfl) ?_
    refine es_get C hw rfl lk_ES_5 rfl d_ES_seal_43 ?_
    refine zr_ast C hw 7 0 rfl rfl (by omega) (by omega) (upd_nA _ _ _) (W1 := esW cI q w (S * w) (S + 1) wl (fun z => fk (hsort (ltB fk fp) held z)) (fun z => fv (hsort (ltB fk fp) held z)) (fun z => fp (hsort (ltB fk fp) held z)) sk sv (va_up ats runs 0) (va_up ens runs held) wn held spilled fed true runs size 0 0 key value many sum least greatest) rfl d_ES_seal_46 (fun H locs hw => ?_)
    refine lv_aload_n hx hb d_ES_seal_47 rfl (lv_at hl 0 rfl) ?_
    refine lv_dup hx hb d_ES_seal_48 rfl ?_
    refine es_get C hw rfl lk_ES_13 rfl d_ES_seal_49 ?_
    refine lv_iconst (v := nI 1) hx hb d_ES_seal_52 (by decide) ?_
    refine zr_add hx hb d_ES_seal_53 ?_
    refine es_put C hw rfl lk_ES_13 rfl rfl rfl (Nat.le_of_ble_eq_true rfl) (W1 := esW cI q w (S * w) (S + 1) wl (fun z => fk (hsort (ltB fk fp) held z)) (fun z => fv (hsort (ltB fk fp) held z)) (fun z => fp (hsort (ltB fk fp) held z)) sk sv (va_up ats runs 0) (va_up ens runs held) wn held spilled fed true (runs + 1) size 0 0 key value many sum least greatest) rfl d_ES_seal_54 (fun H locs hw => ?_)
    refine lv_aload_n hx hb d_ES_seal_57 rfl (lv_at hl 0 rfl) ?_
    refine lv_iconst (v := nI 1) hx hb d_ES_seal_58 (by decide) ?_
    refine es_put C hw rfl lk_ES_15 rfl rfl rfl (Nat.le_of_ble_eq_true rfl) (W1 := esW cI q w (S * w) (S + 1) wl (fun z => fk (hsort (ltB fk fp) held z)) (fun z => fv (hsort (ltB fk fp) held z)) (fun z => fp (hsort (ltB fk fp) held z)) sk sv (va_up ats runs 0) (va_up ens runs held) wn held spilled fed true (runs + 1) 1 0 0 key value many sum least greatest) rfl d_ES_seal_59 (fun H locs hw => ?_)
    have hw : Wd D (tyL cI cZ cJ) A s H locs (esW cI q w (S * w) (S + 1) wl (fun z => fk (hsort (ltB fk fp) held z)) (fun z => fv (hsort (ltB fk fp) held z)) (fun z => fp (hsort (ltB fk fp) held z)) sk sv (va_up ats runs 0) (va_up ens runs held) wn held spilled fed true (runs + 1) (2 ^ 0) 0 0 key value many sum least greatest) := hw
    refine lp_ES_seal1 (runs := runs + 1) C hA (eG := eG) (by omega) (by omega) (fun d H locs ls hd hrd hw hl => ?_) eG 0 H locs ls (by omega) hw hl
    have hpw : 2 ^ d ≤ 2 ^ eG := Nat.pow_le_pow_right (by decide) hd
    have hw : Wd D (tyL cI cZ cJ) A s H locs (esW cI q w (S * w) (S + 1) wl (fun z => fk (hsort (ltB fk fp) held z)) (fun z => fv (hsort (ltB fk fp) held z)) (fun z => fp (hsort (ltB fk fp) held z)) sk sv (va_up ats runs 0) (va_up ens runs held) wn held spilled fed true (runs + 1) (2 ^ d) 0 0 key value many sum least greatest) := hw
    refine lv_iconst (v := nI 0) hx hb d_ES_seal_86 (by decide) ?_
    refine lv_istore_n (lv' := [(1, .int (nI 0)), (0, .ref (q 0))]) hx hb d_ES_seal_87 rfl hl (by decide) rfl (fun ls hl => ?_)
    have hw : Wd D (tyL cI cZ cJ) A s H locs (esW cI q w (S * w) (S + 1) wl (fun z => fk (hsort (ltB fk fp) held z)) (fun z => fv (hsort (ltB fk fp) held z)) (fun z => fp (hsort (ltB fk fp) held z)) sk sv (va_up ats runs 0) (va_up ens runs held) (cpo (leafF (va_up ats runs 0) (va_up ens runs held) (runs + 1)) wn (2 ^ d) 0) held spilled fed true (runs + 1) (2 ^ d) 0 0 key value many sum least greatest) := by rw [cpo_0]; exact hw
    refine lp_ES_seal2 C hA (fun k hk => ⟨(hvk k hk).1, (hvk k hk).2.1, (hvk k hk).2.2.1⟩) (by omega) (by omega) (by omega) hwl (fun H locs ls hw hl => ?_) (2 ^ d) 0 H locs ls (by omega) hw (lv_sub hl [0, 1] rfl)
    have hw : Wd D (tyL cI cZ cJ) A s H locs (esW cI q w (S * w) (S + 1) wl (fun z => fk (hsort (ltB fk fp) held z)) (fun z => fv (hsort (ltB fk fp) held z)) (fun z => fp (hsort (ltB fk fp) held z)) sk sv (va_up ats runs 0) (va_up ens runs held) (cpo (leafF (va_up ats runs 0) (va_up ens runs held) (runs + 1)) wn (2 ^ d) (2 ^ d)) held spilled fed true (runs + 1) (2 ^ d) 0 0 key value many sum least greatest) := hw
    refine lv_aload_n hx hb d_ES_seal_134 rfl (lv_at hl 0 rfl) ?_
    refine es_get C hw rfl lk_ES_15 rfl d_ES_seal_135 ?_
    refine lv_iconst (v := nI 1) hx hb d_ES_seal_138 (by decide) ?_
    refine zr_sub hx hb (by omega) d_ES_seal_139 ?_
    refine lv_istore_n (lv' := [(1, .int (nI ((2 ^ d) - 1))), (0, .ref (q 0))]) hx hb d_ES_seal_140 rfl hl (by decide) rfl (fun ls hl => ?_)
    refine lp_ES_seal3 C hA hvk (by omega) (by omega) (by omega) (by omega) hwl hwb hS (fun wn H locs ls hT hw => ?_) (2 ^ d - 1) _ H locs ls (by omega) (si_0 (fun k hk => cpo_in _ _ hk)) hw (lv_sub hl [0, 1] rfl)
    refine lv_iconst (v := 0) hx hb d_ES_seal_156 (by decide) ?_
    exact zr_iret C ((fun z => fk (hsort (ltB fk fp) held z)), (fun z => fv (hsort (ltB fk fp) held z)), (fun z => fp (hsort (ltB fk fp) held z)), sk, sv, va_up ats runs 0, va_up ens runs held, wn, held, spilled, runs + 1, 2 ^ d) ⟨rfl, Or.inr ⟨rfl, by rw [← hrr], hU.seal hw0 hwb (show 2 * 2 ^ d ≤ wl by omega) hrd hT⟩⟩ hw d_ES_seal_157
  · exact absurd h4 (by decide)
set_option maxHeartbeats 4000000 in
set_option maxRecDepth 100000 in
theorem lp_ES_pass {p : Program} {e : Env} {s : State} {m : MethodId} {args : Array Value} {below : List Frame} {meth : Method} {c : Code} {A : Nat → Prop} (C : Cx p m meth c b_ES_pass 3 none s args R_ES) (hA : ∀ q : Nat, s.heap.size ≤ q → A q) {Q : State → Prop} {k : Nat} (hv : ∀ j, j < runs → VK w sp mo ats ens runs j) (hmo : mo ≤ 2001) (hr0 : 0 < runs) (hr : runs ≤ 2001) (hz : 2 * size ≤ wl) (hwl : wl ≤ 4096) (hwb : w ≤ 64) (hsp : sp ≤ 2000) (KK : ∀ (wn : Nat → Option Nat) (H : Heap) (locs : List Loc) (ls : Array Slot), TI ats ens (kfF fk sk ats runs) runs size wn → Wd D (tyL cI cZ cJ) A s H locs (esW cI q w sp mo wl fk fv fp sk sv ats ens wn held spilled fed sealed runs size consumed current key value many sum least greatest) → W p l e (rmF 3 66) s m args below meth c H locs 0 0 Q (F0 m 70 ls [])) : ∀ (n v e1 : Nat) (wn : Nat → Option Nat) (H : Heap) (locs : List Loc) (ls : Array Slot), v ≤ n → v < size → (size + k) / 2 ^ e1 = v → PI ats ens (kfF fk sk ats runs) runs size k e1 wn → Wd D (tyL cI cZ cJ) A s H locs (esW cI q w sp mo wl fk fv fp sk sv ats ens wn held spilled fed sealed runs size consumed current key value many sum least greatest) → lv_has ls 3 [(2, .int (nI v)), (1, .int (nI k)), (0, .ref (q 0))] → W p l e (rmF 3 66) s m args below meth c H locs 0 0 Q (F0 m 54 ls []) := by
  have hx := C.1.1
  have hb := C.1.2.1
  intro n
  induction n with
  | zero =>
    intro v e1 wn H locs ls hn hvs hve hI hw hl
    have ev : v = 0 := by omega
    subst ev
    refine lv_iload_n hx hb d_ES_pass_54 rfl (lv_at hl 0 rfl) ?_
    refine zr_cle0 hx hb (by omega) (tgt := 70) d_ES_pass_55 (by decide) (fun h55 => ?_) (fun h55 => ?_)
    · exact KK wn H locs ls (pi_end hI hve) hw
    · exact absurd h55 (by omega)
  | succ n ih =>
    intro v e1 wn H locs ls hn hvs hve hI hw hl
    refine lv_iload_n hx hb d_ES_pass_54 rfl (lv_at hl 0 rfl) ?_
    refine zr_cle0 hx hb (by omega) (tgt := 70) d_ES_pass_55 (by decide) (fun h55 => ?_) (fun h55 => ?_)
    · subst h55
      exact KK wn H locs ls (pi_end hI hve) hw
    · refine lv_aload_n hx hb d_ES_pass_58 rfl (lv_at hl 2 rfl) ?_
      refine lv_iload_n hx hb d_ES_pass_59 rfl (lv_at hl 0 rfl) ?_
      refine zr_callv0 (As := [.int (nI v)]) (rest := []) C hA hw hl.1 g_ES_ES_play (c_ES_play (nd := v) (by omega) (fun j h => hv j (hI.2.2 _ (by omega) (by omega) j h)) (fun j h => hv j (hI.2.2 _ (by omega) (by omega) j h)) hr0 hr hmo hwb hsp hwl) h_ES_play ⟨Nat.le_of_ble_eq_true rfl, Nat.le_of_ble_eq_true rfl⟩ rfl rfl rfl (Nat.le_of_ble_eq_true rfl) d_ES_pass_60 ⟨rfl, rfl⟩ ⟨Nat.zero_le _, Nat.zero_le _⟩ (fun u H locs hres hw => ?_)
      have hw : Wd D (tyL cI cZ cJ) A s H locs (esW cI q w sp mo wl fk fv fp sk sv ats ens (va_up wn v (pickF ats ens (kfF fk sk ats runs) (wn (2 * v)) (wn (2 * v + 1)))) held spilled fed sealed runs size consumed current key value many sum least greatest) := hw
      refine lv_iload_n hx hb d_ES_pass_63 rfl (lv_at hl 0 rfl) ?_
      refine lv_iconst (v := nI 2) hx hb d_ES_pass_64 (by decide) ?_
      refine zr_div hx hb (by omega) (by omega) (by omega) d_ES_pass_65 ?_
      refine lv_istore_n (lv' := [(2, .int (nI (v / 2))), (1, .int (nI k)), (0, .ref (q 0))]) hx hb d_ES_pass_66 rfl hl (by decide) rfl (fun ls hl => ?_)
      refine lv_goto (tgt := 54) hx hb d_ES_pass_67 (by decide) ?_
      exact ih (v / 2) (e1 + 1) _ H locs ls (by omega) (by omega) (by rw [half_pow, hve]) (pi_step hI hve h55 hvs) hw hl
set_option maxHeartbeats 4000000 in
set_option maxRecDepth 100000 in
theorem c_ES_pass (hG : Geo w S wl) (hrep : RepE w S wl K V fed r true consumed (fk, fv, fp, sk, sv, ats, ens, wn, held, spilled, runs, size)) (hc : consumed < fed) : MetV l y_ES_pass b_ES_pass 3 (rmF 3 66) D (tyL cI cZ cJ) [.ref (q 0)] (esW cI q w (S * w) (S + 1) wl fk fv fp sk sv ats ens wn held spilled fed true runs size consumed current key value many sum least greatest) sz (fun (u : ESt) => RepE w S wl K V fed r true (consumed + 1) u) (fun u => esU cI q w (S * w) (S + 1) wl u fed true (consumed + 1) current key value many sum least greatest) := by
  obtain ⟨hw0, hwb, hS, hS2, hwl, eG, hwl2, hSe⟩ := hG
  refine MetV.of (by decide) (Nat.le_of_ble_eq_true rfl) ?_
  intro p e s m below meth c A ls C hnm hA hw hl
  have hx := C.1.1
  have hb := C.1.2.1
  have hl : lv_has ls 3 [(0, .ref (q 0))] := hl
  obtain ⟨hrr, hSS⟩ := hrep.se
  obtain ⟨hn1, hn2, hn3, hn4, hn5, hTI⟩ := hSS.nums
  obtain ⟨k, hk1, hk2, hk3, -, -⟩ := hSS.top hw0 hwb hS hS2 hc
  have hvk := fun (j : Nat) (hj : j < runs) => hSS.vk2 hwb hS hk3 hj
  have hfl := hSS.fed_le
  have hkf : ∀ j, j ≠ k → kfF fk sk (va_up ats k (ats k + 1)) runs j = kfF fk sk ats runs j := fun j hj => by unfold kfF; rw [va_up_o _ _ hj]
  refine lv_aload_n hx hb d_ES_pass_0 rfl (lv_at hl 0 rfl) ?_
  refine zr_calli0 (As := []) (rest := []) C hA hw hl.1 g_ES_ES_top (c_ES_top (by omega) hwl) h_ES_top ⟨Nat.le_of_ble_eq_true rfl, Nat.le_of_ble_eq_true rfl⟩ rfl rfl rfl (Nat.le_of_ble_eq_true rfl) d_ES_pass_1 ⟨rfl, rfl⟩ ⟨Nat.zero_le _, Nat.zero_le _⟩ (fun r u H locs hres hw => ?_)
  have hw : Wd D (tyL cI cZ cJ) A s H locs (esW cI q w (S * w) (S + 1) wl fk fv fp sk sv ats ens wn held spilled fed true runs size consumed current key value many sum least greatest) := hw
  refine zr_top (y := wI (wn 1)) hres ?_
  refine zr_top (y := nI k) (by rw [hk1]; rfl) ?_
  refine lv_istore_n (lv' := [(1, .int (nI k)), (0, .ref (q 0))]) hx hb d_ES_pass_4 rfl hl (by decide) rfl (fun ls hl => ?_)
  refine lv_aload_n hx hb d_ES_pass_5 rfl (lv_at hl 1 rfl) ?_
  refine es_get C hw rfl lk_ES_11 rfl d_ES_pass_6 ?_
  refine lv_iload_n hx hb d_ES_pass_9 rfl (lv_at hl 0 rfl) ?_
  refine lv_dup2_11 hx hb d_ES_pass_10 rfl rfl ?_
  refine zr_ald C hw 6 0 rfl rfl (by omega) (by omega) (v := nI (ats k)) rfl d_ES_pass_11 ?_
  refine lv_iconst (v := nI 1) hx hb d_ES_pass_12 (by decide) ?_
  refine zr_add hx hb d_ES_pass_13 ?_
  refine zr_ast C hw 6 0 rfl rfl (by omega) (by omega) (upd_nA _ _ _) (W1 := esW cI q w (S * w) (S + 1) wl fk fv fp sk sv (va_up ats k ((ats k) + 1)) ens wn held spilled fed true runs size consumed current key value many sum least greatest) rfl d_ES_pass_14 (fun H locs hw => ?_)
  refine lv_aload_n hx hb d_ES_pass_15 rfl (lv_at hl 1 rfl) ?_
  refine lv_dup hx hb d_ES_pass_16 rfl ?_
  refine es_get C hw rfl lk_ES_16 rfl d_ES_pass_17 ?_
  refine lv_iconst (v := nI 1) hx hb d_ES_pass_20 (by decide) ?_
  refine zr_add hx hb d_ES_pass_21 ?_
  refine es_put C hw rfl lk_ES_16 rfl rfl rfl (Nat.le_of_ble_eq_true rfl) (W1 := esW cI q w (S * w) (S + 1) wl fk fv fp sk sv (va_up ats k ((ats k) + 1)) ens wn held spilled fed true runs size (consumed + 1) current key value many sum least greatest) rfl d_ES_pass_22 (fun H locs hw => ?_)
  refine lv_aload_n hx hb d_ES_pass_25 rfl (lv_at hl 1 rfl) ?_
  refine lv_iload_n hx hb d_ES_pass_26 rfl (lv_at hl 0 rfl) ?_
  refine zr_calli0 (As := [.int (nI k)]) (rest := []) C hA hw hl.1 g_ES_ES_hasRow (c_ES_hasRow (o1 := some k) (fun j h => by cases h; exact ⟨(hvk k hk2).1, (hvk k hk2).2.1, (hvk k hk2).2.2.1⟩) (by omega)) h_ES_hasRow ⟨Nat.le_of_ble_eq_true rfl, Nat.le_of_ble_eq_true rfl⟩ rfl rfl rfl (Nat.le_of_ble_eq_true rfl) d_ES_pass_27 ⟨rfl, rfl⟩ ⟨Nat.zero_le _, Nat.zero_le _⟩ (fun r u H locs hres hw => ?_)
  have hw : Wd D (tyL cI cZ cJ) A s H locs (esW cI q w (S * w) (S + 1) wl fk fv fp sk sv (va_up ats k ((ats k) + 1)) ens wn held spilled fed true runs size (consumed + 1) current key value many sum least greatest) := hw
  refine zr_top (y := bI (hasB (va_up ats k (ats k + 1)) ens (some k))) hres ?_
  refine zr_bne hx hb (tgt := 45) d_ES_pass_30 (by decide) (fun h30 => ?_) (fun h30 => ?_)
  · refine lv_aload_n hx hb d_ES_pass_45 rfl (lv_at hl 1 rfl) ?_
    refine es_get C hw rfl lk_ES_15 rfl d_ES_pass_46 ?_
    refine lv_iload_n hx hb d_ES_pass_49 rfl (lv_at hl 0 rfl) ?_
    refine zr_add hx hb d_ES_pass_50 ?_
    refine lv_iconst (v := nI 2) hx hb d_ES_pass_51 (by decide) ?_
    refine zr_div hx hb (by omega) (by omega) (by omega) d_ES_pass_52 ?_
    refine lv_istore_n (lv' := [(2, .int (nI ((size + k) / 2))), (1, .int (nI k)), (0, .ref (q 0))]) hx hb d_ES_pass_53 rfl hl (by decide) rfl (fun ls hl => ?_)
    refine lp_ES_pass (k := k) C hA hvk (by omega) hn1 (by omega) hn3 hwl hwb hS (fun wn H locs ls hT hw => ?_) (size + k) ((size + k) / 2) 1 _ H locs ls (by omega) (by omega) (by rw [Nat.pow_one]) (pi_0 hTI hk2 hn4 hk3 (fun j hj => va_up_o _ _ hj) hkf (by first | exact Or.inl ⟨of_decide_eq_true h30, rfl⟩ | exact Or.inr ⟨of_decide_eq_false h30, rfl⟩)) hw (lv_sub hl [0, 1, 2] rfl)
    exact zr_vret C (fk, fv, fp, sk, sv, va_up ats k (ats k + 1), ens, wn, held, spilled, runs, size) (Or.inr ⟨rfl, hrr, hSS.pass hw0 hwb hS hS2 hc hk1 hT⟩) hw d_ES_pass_70
  · refine lv_aload_n hx hb d_ES_pass_33 rfl (lv_at hl 1 rfl) ?_
    refine es_get C hw rfl lk_ES_14 rfl d_ES_pass_34 ?_
    refine lv_aload_n hx hb d_ES_pass_37 rfl (lv_at hl 1 rfl) ?_
    refine es_get C hw rfl lk_ES_15 rfl d_ES_pass_38 ?_
    refine lv_iload_n hx hb d_ES_pass_41 rfl (lv_at hl 0 rfl) ?_
    refine zr_add hx hb d_ES_pass_42 ?_
    refine lv_iconst (v := wI none) hx hb d_ES_pass_43 (by decide) ?_
    refine zr_ast C hw 8 0 rfl rfl (by omega) (by omega) (upd_wA _ _ _) (W1 := esW cI q w (S * w) (S + 1) wl fk fv fp sk sv (va_up ats k ((ats k) + 1)) ens (va_up wn (size + k) none) held spilled fed true runs size (consumed + 1) current key value many sum least greatest) rfl d_ES_pass_44 (fun H locs hw => ?_)
    refine lv_aload_n hx hb d_ES_pass_45 rfl (lv_at hl 1 rfl) ?_
    refine es_get C hw rfl lk_ES_15 rfl d_ES_pass_46 ?_
    refine lv_iload_n hx hb d_ES_pass_49 rfl (lv_at hl 0 rfl) ?_
    refine zr_add hx hb d_ES_pass_50 ?_
    refine lv_iconst (v := nI 2) hx hb d_ES_pass_51 (by decide) ?_
    refine zr_div hx hb (by omega) (by omega) (by omega) d_ES_pass_52 ?_
    refine lv_istore_n (lv' := [(2, .int (nI ((size + k) / 2))), (1, .int (nI k)), (0, .ref (q 0))]) hx hb d_ES_pass_53 rfl hl (by decide) rfl (fun ls hl => ?_)
    refine lp_ES_pass (k := k) C hA hvk (by omega) hn1 (by omega) hn3 hwl hwb hS (fun wn H locs ls hT hw => ?_) (size + k) ((size + k) / 2) 1 _ H locs ls (by omega) (by omega) (by rw [Nat.pow_one]) (pi_0 hTI hk2 hn4 hk3 (fun j hj => va_up_o _ _ hj) hkf (by first | exact Or.inl ⟨of_decide_eq_true h30, rfl⟩ | exact Or.inr ⟨of_decide_eq_false h30, rfl⟩)) hw (lv_sub hl [0, 1, 2] rfl)
    exact zr_vret C (fk, fv, fp, sk, sv, va_up ats k (ats k + 1), ens, wn, held, spilled, runs, size) (Or.inr ⟨rfl, hrr, hSS.pass hw0 hwb hS hS2 hc hk1 hT⟩) hw d_ES_pass_70
theorem h_ES_pass : y_ES_pass.cls ≠ "java/lang/invoke/MethodHandle" ∧ y_ES_pass.cls ≠ "java/lang/invoke/VarHandle" ∧ (parseMethodDescriptor y_ES_pass.desc).map (fun d => d.parameters.length) = some 0 := by decide +kernel
theorem g_ES_ES_pass : GoodIn tb (wsV R_ES 126 y_ES_pass.cls y_ES_pass (wd y_ES_pass b_ES_pass 3 none)) := gd_V (by decide +kernel)
set_option maxHeartbeats 4000000 in
set_option maxRecDepth 100000 in
theorem c_ES_nextRow_u : MetI l y_ES_nextRow b_ES_nextRow 1 (some .int) (rmF 4 88) D (tyL cI cZ cJ) [.ref (q 0)] (esW cI q w (S * w) (S + 1) wl fk fv fp sk sv ats ens wn held spilled fed false runs size consumed current key value many sum least greatest) sz (fun res (_ : Unit) => res = -4) (fun _ => esW cI q w (S * w) (S + 1) wl fk fv fp sk sv ats ens wn held spilled fed false runs size consumed current key value many sum least greatest) := by
  refine MetI.of (by decide) (Nat.le_of_ble_eq_true rfl) ?_
  intro p e s m below meth c A ls C hnm hA hw hl
  have hx := C.1.1
  have hb := C.1.2.1
  have hl : lv_has ls 1 [(0, .ref (q 0))] := hl
  refine lv_aload_n hx hb d_ES_nextRow_0 rfl (lv_at hl 0 rfl) ?_
  refine es_get C hw rfl lk_ES_10 rfl d_ES_nextRow_1 ?_
  refine zr_bne hx hb (tgt := 10) d_ES_nextRow_4 (by decide) (fun h4 => ?_) (fun h4 => ?_)
  · exact absurd h4 (by decide)
  · refine lv_bipush (v := (-4)) hx hb d_ES_nextRow_7 (by decide) ?_
    exact zr_iret C () rfl hw d_ES_nextRow_9
set_option maxHeartbeats 4000000 in
set_option maxRecDepth 100000 in
theorem c_ES_nextRow_e (hG : Geo w S wl) (hrep : RepE w S wl K V fed r true fed (fk, fv, fp, sk, sv, ats, ens, wn, held, spilled, runs, size)) : MetI l y_ES_nextRow b_ES_nextRow 1 (some .int) (rmF 4 88) D (tyL cI cZ cJ) [.ref (q 0)] (esW cI q w (S * w) (S + 1) wl fk fv fp sk sv ats ens wn held spilled fed true runs size fed current key value many sum least greatest) sz (fun res (_ : Unit) => res = -1) (fun _ => esW cI q w (S * w) (S + 1) wl fk fv fp sk sv ats ens wn held spilled fed true runs size fed 0 key value many sum least greatest) := by
  obtain ⟨hw0, hwb, hS, hS2, hwl, eG, hwl2, hSe⟩ := hG
  refine MetI.of (by decide) (Nat.le_of_ble_eq_true rfl) ?_
  intro p e s m below meth c A ls C hnm hA hw hl
  have hx := C.1.1
  have hb := C.1.2.1
  have hl : lv_has ls 1 [(0, .ref (q 0))] := hl
  obtain ⟨hrr, hSS⟩ := hrep.se
  obtain ⟨hn1, hn2, hn3, hn4, hn5, hTI⟩ := hSS.nums
  have hbot := hSS.bot hw0 hwb hS rfl
  refine lv_aload_n hx hb d_ES_nextRow_0 rfl (lv_at hl 0 rfl) ?_
  refine es_get C hw rfl lk_ES_10 rfl d_ES_nextRow_1 ?_
  refine zr_bne hx hb (tgt := 10) d_ES_nextRow_4 (by decide) (fun h4 => ?_) (fun h4 => ?_)
  · refine lv_aload_n hx hb d_ES_nextRow_10 rfl (lv_at hl 0 rfl) ?_
    refine lv_iconst (v := 0) hx hb d_ES_nextRow_11 (by decide) ?_
    refine es_put C hw rfl lk_ES_17 rfl rfl rfl (Nat.le_of_ble_eq_true rfl) (W1 := esW cI q w (S * w) (S + 1) wl fk fv fp sk sv ats ens wn held spilled fed true runs size fed 0 key value many sum least greatest) rfl d_ES_nextRow_12 (fun H locs hw => ?_)
    refine lv_aload_n hx hb d_ES_nextRow_15 rfl (lv_at hl 0 rfl) ?_
    refine zr_calli0 (As := []) (rest := []) C hA hw hl.1 g_ES_ES_top (c_ES_top (by omega) hwl) h_ES_top ⟨Nat.le_of_ble_eq_true rfl, Nat.le_of_ble_eq_true rfl⟩ rfl rfl rfl (Nat.le_of_ble_eq_true rfl) d_ES_nextRow_16 ⟨rfl, rfl⟩ ⟨Nat.zero_le _, Nat.zero_le _⟩ (fun r u H locs hres hw => ?_)
    have hw : Wd D (tyL cI cZ cJ) A s H locs (esW cI q w (S * w) (S + 1) wl fk fv fp sk sv ats ens wn held spilled fed true runs size fed 0 key value many sum least greatest) := hw
    refine zr_top (y := wI (wn 1)) hres ?_
    refine zr_top (y := -1) (by rw [hbot]; rfl) ?_
    refine lv_iconst (v := (-1)) hx hb d_ES_nextRow_19 (by decide) ?_
    refine lv_icmp_ne (tgt := 25) hx hb d_ES_nextRow_20 (by decide) (fun h20 => ?_) (fun h20 => ?_)
    · exact absurd rfl h20
    · refine lv_iconst (v := (-1)) hx hb d_ES_nextRow_23 (by decide) ?_
      exact zr_iret C () rfl hw d_ES_nextRow_24
  · exact absurd h4 (by decide)
set_option maxHeartbeats 4000000 in
set_option maxRecDepth 100000 in
theorem c_ES_nextRow_g (hG : Geo w S wl) (hrep : RepE w S wl K V fed r true consumed (fk, fv, fp, sk, sv, ats, ens, wn, held, spilled, runs, size)) (hc : consumed < fed) : MetI l y_ES_nextRow b_ES_nextRow 1 (some .int) (rmF 4 88) D (tyL cI cZ cJ) [.ref (q 0)] (esW cI q w (S * w) (S + 1) wl fk fv fp sk sv ats ens wn held spilled fed true runs size consumed current key value many sum least greatest) sz (fun res (u : ESt) => res = 1 ∧ RepE w S wl K V fed r true (consumed + 1) u) (fun u => esU cI q w (S * w) (S + 1) wl u fed true (consumed + 1) 1 (K (ordf K fed consumed)) (V (ordf K fed consumed)) many sum least greatest) := by
  have hG2 := hG
  obtain ⟨hw0, hwb, hS, hS2, hwl, eG, hwl2, hSe⟩ := hG
  refine MetI.of (by decide) (Nat.le_of_ble_eq_true rfl) ?_
  intro p e s m below meth c A ls C hnm hA hw hl
  have hx := C.1.1
  have hb := C.1.2.1
  have hl : lv_has ls 1 [(0, .ref (q 0))] := hl
  obtain ⟨hrr, hSS⟩ := hrep.se
  obtain ⟨hn1, hn2, hn3, hn4, hn5, hTI⟩ := hSS.nums
  obtain ⟨k, hk1, hk2, hk3, hk4, hk5⟩ := hSS.top hw0 hwb hS hS2 hc
  have hvk := fun (j : Nat) (hj : j < runs) => hSS.vk hwb hS hj
  refine lv_aload_n hx hb d_ES_nextRow_0 rfl (lv_at hl 0 rfl) ?_
  refine es_get C hw rfl lk_ES_10 rfl d_ES_nextRow_1 ?_
  refine zr_bne hx hb (tgt := 10) d_ES_nextRow_4 (by decide) (fun h4 => ?_) (fun h4 => ?_)
  · refine lv_aload_n hx hb d_ES_nextRow_10 rfl (lv_at hl 0 rfl) ?_
    refine lv_iconst (v := 0) hx hb d_ES_nextRow_11 (by decide) ?_
    refine es_put C hw rfl lk_ES_17 rfl rfl rfl (Nat.le_of_ble_eq_true rfl) (W1 := esW cI q w (S * w) (S + 1) wl fk fv fp sk sv ats ens wn held spilled fed true runs size consumed 0 key value many sum least greatest) rfl d_ES_nextRow_12 (fun H locs hw => ?_)
    refine lv_aload_n hx hb d_ES_nextRow_15 rfl (lv_at hl 0 rfl) ?_
    refine zr_calli0 (As := []) (rest := []) C hA hw hl.1 g_ES_ES_top (c_ES_top (by omega) hwl) h_ES_top ⟨Nat.le_of_ble_eq_true rfl, Nat.le_of_ble_eq_true rfl⟩ rfl rfl rfl (Nat.le_of_ble_eq_true rfl) d_ES_nextRow_16 ⟨rfl, rfl⟩ ⟨Nat.zero_le _, Nat.zero_le _⟩ (fun r u H locs hres hw => ?_)
    have hw : Wd D (tyL cI cZ cJ) A s H locs (esW cI q w (S * w) (S + 1) wl fk fv fp sk sv ats ens wn held spilled fed true runs size consumed 0 key value many sum least greatest) := hw
    refine zr_top (y := wI (wn 1)) hres ?_
    refine zr_top (y := nI k) (by rw [hk1]; rfl) ?_
    refine lv_iconst (v := (-1)) hx hb d_ES_nextRow_19 (by decide) ?_
    refine lv_icmp_ne (tgt := 25) hx hb d_ES_nextRow_20 (by decide) (fun h20 => ?_) (fun h20 => ?_)
    · refine lv_aload_n hx hb d_ES_nextRow_25 rfl (lv_at hl 0 rfl) ?_
      refine lv_iconst (v := 1) hx hb d_ES_nextRow_26 (by decide) ?_
      refine es_put C hw rfl lk_ES_17 rfl rfl rfl (Nat.le_of_ble_eq_true rfl) (W1 := esW cI q w (S * w) (S + 1) wl fk fv fp sk sv ats ens wn held spilled fed true runs size consumed 1 key value many sum least greatest) rfl d_ES_nextRow_27 (fun H locs hw => ?_)
      refine lv_aload_n hx hb d_ES_nextRow_30 rfl (lv_at hl 0 rfl) ?_
      refine lv_aload_n hx hb d_ES_nextRow_31 rfl (lv_at hl 0 rfl) ?_
      refine lv_aload_n hx hb d_ES_nextRow_32 rfl (lv_at hl 0 rfl) ?_
      refine zr_calli0 (As := []) (rest := [.ref (q 0), .ref (q 0)]) C hA hw hl.1 g_ES_ES_top (c_ES_top (by omega) hwl) h_ES_top ⟨Nat.le_of_ble_eq_true rfl, Nat.le_of_ble_eq_true rfl⟩ rfl rfl rfl (Nat.le_of_ble_eq_true rfl) d_ES_nextRow_33 ⟨rfl, rfl⟩ ⟨Nat.zero_le _, Nat.zero_le _⟩ (fun r u H locs hres hw => ?_)
      have hw : Wd D (tyL cI cZ cJ) A s H locs (esW cI q w (S * w) (S + 1) wl fk fv fp sk sv ats ens wn held spilled fed true runs size consumed 1 key value many sum least greatest) := hw
      refine zr_top (y := wI (wn 1)) hres ?_
      refine zr_top (y := nI k) (by rw [hk1]; rfl) ?_
      refine zr_calli0 (As := [.int (nI k)]) (rest := [.ref (q 0)]) C hA hw hl.1 g_ES_ES_keyOf (c_ES_keyOf (hvk k hk2).1 ((hvk k hk2).2.2.2 hk3) hn1 (by omega) (by omega) hwb hS) h_ES_keyOf ⟨Nat.le_of_ble_eq_true rfl, Nat.le_of_ble_eq_true rfl⟩ rfl rfl rfl (Nat.le_of_ble_eq_true rfl) d_ES_nextRow_36 ⟨rfl, rfl⟩ ⟨Nat.zero_le _, Nat.zero_le _⟩ (fun r u H locs hres hw => ?_)
      have hw : Wd D (tyL cI cZ cJ) A s H locs (esW cI q w (S * w) (S + 1) wl fk fv fp sk sv ats ens wn held spilled fed true runs size consumed 1 key value many sum least greatest) := hw
      refine zr_top (y := kfF fk sk ats runs k) hres ?_
      refine zr_top (y := K (ordf K fed (consumed))) hk4 ?_
      refine es_put C hw rfl lk_ES_18 rfl rfl rfl (Nat.le_of_ble_eq_true rfl) (W1 := esW cI q w (S * w) (S + 1) wl fk fv fp sk sv ats ens wn held spilled fed true runs size consumed 1 (K (ordf K fed (consumed))) value many sum least greatest) rfl d_ES_nextRow_39 (fun H locs hw => ?_)
      refine lv_aload_n hx hb d_ES_nextRow_42 rfl (lv_at hl 0 rfl) ?_
      refine lv_aload_n hx hb d_ES_nextRow_43 rfl (lv_at hl 0 rfl) ?_
      refine lv_aload_n hx hb d_ES_nextRow_44 rfl (lv_at hl 0 rfl) ?_
      refine zr_calli0 (As := []) (rest := [.ref (q 0), .ref (q 0)]) C hA hw hl.1 g_ES_ES_top (c_ES_top (by omega) hwl) h_ES_top ⟨Nat.le_of_ble_eq_true rfl, Nat.le_of_ble_eq_true rfl⟩ rfl rfl rfl (Nat.le_of_ble_eq_true rfl) d_ES_nextRow_45 ⟨rfl, rfl⟩ ⟨Nat.zero_le _, Nat.zero_le _⟩ (fun r u H locs hres hw => ?_)
      have hw : Wd D (tyL cI cZ cJ) A s H locs (esW cI q w (S * w) (S + 1) wl fk fv fp sk sv ats ens wn held spilled fed true runs size consumed 1 (K (ordf K fed (consumed))) value many sum least greatest) := hw
      refine zr_top (y := wI (wn 1)) hres ?_
      refine zr_top (y := nI k) (by rw [hk1]; rfl) ?_
      refine zr_calli0 (As := [.int (nI k)]) (rest := [.ref (q 0)]) C hA hw hl.1 g_ES_ES_valueOf (c_ES_valueOf (hvk k hk2).1 ((hvk k hk2).2.2.2 hk3) hn1 (by omega) (by omega) hwb hS) h_ES_valueOf ⟨Nat.le_of_ble_eq_true rfl, Nat.le_of_ble_eq_true rfl⟩ rfl rfl rfl (Nat.le_of_ble_eq_true rfl) d_ES_nextRow_48 ⟨rfl, rfl⟩ ⟨Nat.zero_le _, Nat.zero_le _⟩ (fun r u H locs hres hw => ?_)
      have hw : Wd D (tyL cI cZ cJ) A s H locs (esW cI q w (S * w) (S + 1) wl fk fv fp sk sv ats ens wn held spilled fed true runs size consumed 1 (K (ordf K fed (consumed))) value many sum least greatest) := hw
      refine zr_top (y := kfF fv sv ats runs k) hres ?_
      refine zr_top (y := V (ordf K fed (consumed))) hk5 ?_
      refine es_put C hw rfl lk_ES_19 rfl rfl rfl (Nat.le_of_ble_eq_true rfl) (W1 := esW cI q w (S * w) (S + 1) wl fk fv fp sk sv ats ens wn held spilled fed true runs size consumed 1 (K (ordf K fed (consumed))) (V (ordf K fed (consumed))) many sum least greatest) rfl d_ES_nextRow_51 (fun H locs hw => ?_)
      refine lv_aload_n hx hb d_ES_nextRow_54 rfl (lv_at hl 0 rfl) ?_
      refine zr_callv0 (As := []) (rest := []) C hA hw hl.1 g_ES_ES_pass (c_ES_pass hG2 hrep hc) h_ES_pass ⟨Nat.le_of_ble_eq_true rfl, Nat.le_of_ble_eq_true rfl⟩ rfl rfl rfl (Nat.le_of_ble_eq_true rfl) d_ES_nextRow_55 ⟨rfl, rfl⟩ ⟨Nat.zero_le _, Nat.zero_le _⟩ (fun u H locs hres hw => ?_)
      obtain ⟨fk, fv, fp, sk, sv, ats, ens, wn, held, spilled, runs, size⟩ := u
      have hw : Wd D (tyL cI cZ cJ) A s H locs (esW cI q w (S * w) (S + 1) wl fk fv fp sk sv ats ens wn held spilled fed true runs size (consumed + 1) 1 (K (ordf K fed consumed)) (V (ordf K fed consumed)) many sum least greatest) := hw
      have hrep := hres
      refine lv_iconst (v := 1) hx hb d_ES_nextRow_58 (by decide) ?_
      exact zr_iret C (fk, fv, fp, sk, sv, ats, ens, wn, held, spilled, runs, size) ⟨rfl, hrep⟩ hw d_ES_nextRow_59
    · exact absurd h20 (nI_m1 (by omega))
  · exact absurd h4 (by decide)
set_option maxHeartbeats 4000000 in
set_option maxRecDepth 100000 in
theorem c_ES_nextGroup_u : MetI l y_ES_nextGroup b_ES_nextGroup 2 (some .int) (rmF 4 88) D (tyL cI cZ cJ) [.ref (q 0)] (esW cI q w (S * w) (S + 1) wl fk fv fp sk sv ats ens wn held spilled fed false runs size consumed current key value many sum least greatest) sz (fun res (_ : Unit) => res = -4) (fun _ => esW cI q w (S * w) (S + 1) wl fk fv fp sk sv ats ens wn held spilled fed false runs size consumed current key value many sum least greatest) := by
  refine MetI.of (by decide) (Nat.le_of_ble_eq_true rfl) ?_
  intro p e s m below meth c A ls C hnm hA hw hl
  have hx := C.1.1
  have hb := C.1.2.1
  have hl : lv_has ls 2 [(0, .ref (q 0))] := hl
  refine lv_aload_n hx hb d_ES_nextGroup_0 rfl (lv_at hl 0 rfl) ?_
  refine es_get C hw rfl lk_ES_10 rfl d_ES_nextGroup_1 ?_
  refine zr_bne hx hb (tgt := 10) d_ES_nextGroup_4 (by decide) (fun h4 => ?_) (fun h4 => ?_)
  · exact absurd h4 (by decide)
  · refine lv_bipush (v := (-4)) hx hb d_ES_nextGroup_7 (by decide) ?_
    exact zr_iret C () rfl hw d_ES_nextGroup_9
set_option maxHeartbeats 4000000 in
set_option maxRecDepth 100000 in
theorem c_ES_nextGroup_e (hG : Geo w S wl) (hrep : RepE w S wl K V fed r true fed (fk, fv, fp, sk, sv, ats, ens, wn, held, spilled, runs, size)) : MetI l y_ES_nextGroup b_ES_nextGroup 2 (some .int) (rmF 4 88) D (tyL cI cZ cJ) [.ref (q 0)] (esW cI q w (S * w) (S + 1) wl fk fv fp sk sv ats ens wn held spilled fed true runs size fed current key value many sum least greatest) sz (fun res (_ : Unit) => res = -1) (fun _ => esW cI q w (S * w) (S + 1) wl fk fv fp sk sv ats ens wn held spilled fed true runs size fed 0 key value many sum least greatest) := by
  obtain ⟨hw0, hwb, hS, hS2, hwl, eG, hwl2, hSe⟩ := hG
  refine MetI.of (by decide) (Nat.le_of_ble_eq_true rfl) ?_
  intro p e s m below meth c A ls C hnm hA hw hl
  have hx := C.1.1
  have hb := C.1.2.1
  have hl : lv_has ls 2 [(0, .ref (q 0))] := hl
  obtain ⟨hrr, hSS⟩ := hrep.se
  obtain ⟨hn1, hn2, hn3, hn4, hn5, hTI⟩ := hSS.nums
  have hbot := hSS.bot hw0 hwb hS rfl
  refine lv_aload_n hx hb d_ES_nextGroup_0 rfl (lv_at hl 0 rfl) ?_
  refine es_get C hw rfl lk_ES_10 rfl d_ES_nextGroup_1 ?_
  refine zr_bne hx hb (tgt := 10) d_ES_nextGroup_4 (by decide) (fun h4 => ?_) (fun h4 => ?_)
  · refine lv_aload_n hx hb d_ES_nextGroup_10 rfl (lv_at hl 0 rfl) ?_
    refine lv_iconst (v := 0) hx hb d_ES_nextGroup_11 (by decide) ?_
    refine es_put C hw rfl lk_ES_17 rfl rfl rfl (Nat.le_of_ble_eq_true rfl) (W1 := esW cI q w (S * w) (S + 1) wl fk fv fp sk sv ats ens wn held spilled fed true runs size fed 0 key value many sum least greatest) rfl d_ES_nextGroup_12 (fun H locs hw => ?_)
    refine lv_aload_n hx hb d_ES_nextGroup_15 rfl (lv_at hl 0 rfl) ?_
    refine zr_calli0 (As := []) (rest := []) C hA hw hl.1 g_ES_ES_top (c_ES_top (by omega) hwl) h_ES_top ⟨Nat.le_of_ble_eq_true rfl, Nat.le_of_ble_eq_true rfl⟩ rfl rfl rfl (Nat.le_of_ble_eq_true rfl) d_ES_nextGroup_16 ⟨rfl, rfl⟩ ⟨Nat.zero_le _, Nat.zero_le _⟩ (fun r u H locs hres hw => ?_)
    have hw : Wd D (tyL cI cZ cJ) A s H locs (esW cI q w (S * w) (S + 1) wl fk fv fp sk sv ats ens wn held spilled fed true runs size fed 0 key value many sum least greatest) := hw
    refine zr_top (y := wI (wn 1)) hres ?_
    refine zr_top (y := -1) (by rw [hbot]; rfl) ?_
    refine lv_iconst (v := (-1)) hx hb d_ES_nextGroup_19 (by decide) ?_
    refine lv_icmp_ne (tgt := 25) hx hb d_ES_nextGroup_20 (by decide) (fun h20 => ?_) (fun h20 => ?_)
    · exact absurd rfl h20
    · refine lv_iconst (v := (-1)) hx hb d_ES_nextGroup_23 (by decide) ?_
      exact zr_iret C () rfl hw d_ES_nextGroup_24
  · exact absurd h4 (by decide)
set_option maxHeartbeats 4000000 in
set_option maxRecDepth 100000 in
theorem lp_ES_nextGroup {p : Program} {e : Env} {s : State} {m : MethodId} {args : Array Value} {below : List Frame} {meth : Method} {c : Code} {A : Nat → Prop} (hG : Geo w S wl) (C : Cx p m meth c b_ES_nextGroup 2 (some .int) s args R_ES) (hA : ∀ q : Nat, s.heap.size ≤ q → A q) {N : Nat} : ∀ (f i : Nat) (fk fv fp sk sv : Nat → Int32) (ats ens : Nat → Nat) (wn : Nat → Option Nat) (held spilled runs size : Nat) (H : Heap) (locs : List Loc) (ls : Array Slot), fed ≤ consumed + i + f → i + glen K (ordf K fed) fed (K (ordf K fed consumed)) f (consumed + i) = N → RepE w S wl K V fed r true (consumed + i) (fk, fv, fp, sk, sv, ats, ens, wn, held, spilled, runs, size) → Wd D (tyL cI cZ cJ) A s H locs (esW cI q w (S * w) (S + 1) wl fk fv fp sk sv ats ens wn held spilled fed true runs size (consumed + i) 2 (K (ordf K fed consumed)) value (nI i) (gSum V (ordf K fed) consumed i) (gMin V (ordf K fed) consumed i) (gMax V (ordf K fed) consumed i)) → lv_has ls 2 [(0, .ref (q 0))] → W p l e (rmF 4 88) s m args below meth c H locs 0 0 (MQ below (va_Qi (fun res (u : ESt) => res = 2 ∧ RepE w S wl K V fed r true (consumed + N) u) (cB D (tyL cI cZ cJ) A (fun u => esU cI q w (S * w) (S + 1) wl u fed true (consumed + N) 2 (K (ordf K fed consumed)) value (nI N) (gSum V (ordf K fed) consumed N) (gMin V (ordf K fed) consumed N) (gMax V (ordf K fed) consumed N))) A) args s 0 0 A) (F0 m 72 ls []) := by
  have hx := C.1.1
  have hb := C.1.2.1
  have hG2 := hG
  obtain ⟨hw0, hwb, hS, hS2, hwl, eG, hwl2, hSe⟩ := hG
  intro f
  induction f with
  | zero =>
    intro i fk fv fp sk sv ats ens wn held spilled runs size H locs ls hf hN hrep hw hl
    obtain ⟨hrr, hSS⟩ := hrep.se
    obtain ⟨hn1, hn2, hn3, hn4, hn5, hTI⟩ := hSS.nums
    have hbot := hSS.bot hw0 hwb hS (by omega)
    refine lv_aload_n hx hb d_ES_nextGroup_72 rfl (lv_at hl 0 rfl) ?_
    refine zr_calli0 (As := []) (rest := []) C hA hw hl.1 g_ES_ES_top (c_ES_top (by omega) hwl) h_ES_top ⟨Nat.le_of_ble_eq_true rfl, Nat.le_of_ble_eq_true rfl⟩ rfl rfl rfl (Nat.le_of_ble_eq_true rfl) d_ES_nextGroup_73 ⟨rfl, rfl⟩ ⟨Nat.zero_le _, Nat.zero_le _⟩ (fun r u H locs hres hw => ?_)
    have hw : Wd D (tyL cI cZ cJ) A s H locs (esW cI q w (S * w) (S + 1) wl fk fv fp sk sv ats ens wn held spilled fed true runs size (consumed + i) 2 (K (ordf K fed consumed)) value (nI i) (gSum V (ordf K fed) consumed i) (gMin V (ordf K fed) consumed i) (gMax V (ordf K fed) consumed i)) := hw
    refine zr_top (y := wI (wn 1)) hres ?_
    refine zr_top (y := -1) (by rw [hbot]; rfl) ?_
    refine lv_iconst (v := (-1)) hx hb d_ES_nextGroup_76 (by decide) ?_
    refine lv_icmp_eq (tgt := 155) hx hb d_ES_nextGroup_77 (by decide) (fun h77 => ?_) (fun h77 => ?_)
    · refine lv_iconst (v := 2) hx hb d_ES_nextGroup_155 (by decide) ?_
      have ei : i = N := by rw [glen_0 (by omega)] at hN; omega
      subst ei
      exact zr_iret C (fk, fv, fp, sk, sv, ats, ens, wn, held, spilled, runs, size) ⟨rfl, hrep⟩ hw d_ES_nextGroup_156
    · exact absurd rfl h77
  | succ f ih =>
    intro i fk fv fp sk sv ats ens wn held spilled runs size H locs ls hf hN hrep hw hl
    by_cases hc : consumed + i < fed
    · obtain ⟨hrr, hSS⟩ := hrep.se
      obtain ⟨hn1, hn2, hn3, hn4, hn5, hTI⟩ := hSS.nums
      obtain ⟨k, hk1, hk2, hk3, hk4, hk5⟩ := hSS.top hw0 hwb hS hS2 hc
      have hvk := fun (j : Nat) (hj : j < runs) => hSS.vk hwb hS hj
      refine lv_aload_n hx hb d_ES_nextGroup_72 rfl (lv_at hl 0 rfl) ?_
      refine zr_calli0 (As := []) (rest := []) C hA hw hl.1 g_ES_ES_top (c_ES_top (by omega) hwl) h_ES_top ⟨Nat.le_of_ble_eq_true rfl, Nat.le_of_ble_eq_true rfl⟩ rfl rfl rfl (Nat.le_of_ble_eq_true rfl) d_ES_nextGroup_73 ⟨rfl, rfl⟩ ⟨Nat.zero_le _, Nat.zero_le _⟩ (fun r u H locs hres hw => ?_)
      have hw : Wd D (tyL cI cZ cJ) A s H locs (esW cI q w (S * w) (S + 1) wl fk fv fp sk sv ats ens wn held spilled fed true runs size (consumed + i) 2 (K (ordf K fed consumed)) value (nI i) (gSum V (ordf K fed) consumed i) (gMin V (ordf K fed) consumed i) (gMax V (ordf K fed) consumed i)) := hw
      refine zr_top (y := wI (wn 1)) hres ?_
      refine zr_top (y := nI k) (by rw [hk1]; rfl) ?_
      refine lv_iconst (v := (-1)) hx hb d_ES_nextGroup_76 (by decide) ?_
      refine lv_icmp_eq (tgt := 155) hx hb d_ES_nextGroup_77 (by decide) (fun h77 => ?_) (fun h77 => ?_)
      · exact absurd h77 (nI_m1 (by omega))
      · refine lv_aload_n hx hb d_ES_nextGroup_80 rfl (lv_at hl 0 rfl) ?_
        refine lv_aload_n hx hb d_ES_nextGroup_81 rfl (lv_at hl 0 rfl) ?_
        refine zr_calli0 (As := []) (rest := [.ref (q 0)]) C hA hw hl.1 g_ES_ES_top (c_ES_top (by omega) hwl) h_ES_top ⟨Nat.le_of_ble_eq_true rfl, Nat.le_of_ble_eq_true rfl⟩ rfl rfl rfl (Nat.le_of_ble_eq_true rfl) d_ES_nextGroup_82 ⟨rfl, rfl⟩ ⟨Nat.zero_le _, Nat.zero_le _⟩ (fun r u H locs hres hw => ?_)
        have hw : Wd D (tyL cI cZ cJ) A s H locs (esW cI q w (S * w) (S + 1) wl fk fv fp sk sv ats ens wn held spilled fed true runs size (consumed + i) 2 (K (ordf K fed consumed)) value (nI i) (gSum V (ordf K fed) consumed i) (gMin V (ordf K fed) consumed i) (gMax V (ordf K fed) consumed i)) := hw
        refine zr_top (y := wI (wn 1)) hres ?_
        refine zr_top (y := nI k) (by rw [hk1]; rfl) ?_
        refine zr_calli0 (As := [.int (nI k)]) (rest := []) C hA hw hl.1 g_ES_ES_keyOf (c_ES_keyOf (hvk k hk2).1 ((hvk k hk2).2.2.2 hk3) hn1 (by omega) (by omega) hwb hS) h_ES_keyOf ⟨Nat.le_of_ble_eq_true rfl, Nat.le_of_ble_eq_true rfl⟩ rfl rfl rfl (Nat.le_of_ble_eq_true rfl) d_ES_nextGroup_85 ⟨rfl, rfl⟩ ⟨Nat.zero_le _, Nat.zero_le _⟩ (fun r u H locs hres hw => ?_)
        have hw : Wd D (tyL cI cZ cJ) A s H locs (esW cI q w (S * w) (S + 1) wl fk fv fp sk sv ats ens wn held spilled fed true runs size (consumed + i) 2 (K (ordf K fed consumed)) value (nI i) (gSum V (ordf K fed) consumed i) (gMin V (ordf K fed) consumed i) (gMax V (ordf K fed) consumed i)) := hw
        refine zr_top (y := kfF fk sk ats runs k) hres ?_
        refine zr_top (y := K (ordf K fed (consumed + i))) hk4 ?_
        refine lv_aload_n hx hb d_ES_nextGroup_88 rfl (lv_at hl 0 rfl) ?_
        refine es_get C hw rfl lk_ES_18 rfl d_ES_nextGroup_89 ?_
        refine lv_icmp_ne (tgt := 155) hx hb d_ES_nextGroup_92 (by decide) (fun h92 => ?_) (fun h92 => ?_)
        · have ei : i = N := by rw [glen_0 (fun z => h92 z.2)] at hN; omega
          subst ei
          refine lv_iconst (v := 2) hx hb d_ES_nextGroup_155 (by decide) ?_
          exact zr_iret C (fk, fv, fp, sk, sv, ats, ens, wn, held, spilled, runs, size) ⟨rfl, hrep⟩ hw d_ES_nextGroup_156
        · refine lv_aload_n hx hb d_ES_nextGroup_95 rfl (lv_at hl 0 rfl) ?_
          refine lv_aload_n hx hb d_ES_nextGroup_96 rfl (lv_at hl 0 rfl) ?_
          refine zr_calli0 (As := []) (rest := [.ref (q 0)]) C hA hw hl.1 g_ES_ES_top (c_ES_top (by omega) hwl) h_ES_top ⟨Nat.le_of_ble_eq_true rfl, Nat.le_of_ble_eq_true rfl⟩ rfl rfl rfl (Nat.le_of_ble_eq_true rfl) d_ES_nextGroup_97 ⟨rfl, rfl⟩ ⟨Nat.zero_le _, Nat.zero_le _⟩ (fun r u H locs hres hw => ?_)
          have hw : Wd D (tyL cI cZ cJ) A s H locs (esW cI q w (S * w) (S + 1) wl fk fv fp sk sv ats ens wn held spilled fed true runs size (consumed + i) 2 (K (ordf K fed consumed)) value (nI i) (gSum V (ordf K fed) consumed i) (gMin V (ordf K fed) consumed i) (gMax V (ordf K fed) consumed i)) := hw
          refine zr_top (y := wI (wn 1)) hres ?_
          refine zr_top (y := nI k) (by rw [hk1]; rfl) ?_
          refine zr_calli0 (As := [.int (nI k)]) (rest := []) C hA hw hl.1 g_ES_ES_valueOf (c_ES_valueOf (hvk k hk2).1 ((hvk k hk2).2.2.2 hk3) hn1 (by omega) (by omega) hwb hS) h_ES_valueOf ⟨Nat.le_of_ble_eq_true rfl, Nat.le_of_ble_eq_true rfl⟩ rfl rfl rfl (Nat.le_of_ble_eq_true rfl) d_ES_nextGroup_100 ⟨rfl, rfl⟩ ⟨Nat.zero_le _, Nat.zero_le _⟩ (fun r u H locs hres hw => ?_)
          have hw : Wd D (tyL cI cZ cJ) A s H locs (esW cI q w (S * w) (S + 1) wl fk fv fp sk sv ats ens wn held spilled fed true runs size (consumed + i) 2 (K (ordf K fed consumed)) value (nI i) (gSum V (ordf K fed) consumed i) (gMin V (ordf K fed) consumed i) (gMax V (ordf K fed) consumed i)) := hw
          refine zr_top (y := kfF fv sv ats runs k) hres ?_
          refine zr_top (y := V (ordf K fed (consumed + i))) hk5 ?_
          refine lv_istore_n (lv' := [(1, .int (V (ordf K fed (consumed + i)))), (0, .ref (q 0))]) hx hb d_ES_nextGroup_103 rfl hl (by decide) rfl (fun ls hl => ?_)
          refine lv_aload_n hx hb d_ES_nextGroup_104 rfl (lv_at hl 1 rfl) ?_
          refine lv_dup hx hb d_ES_nextGroup_105 rfl ?_
          refine es_get C hw rfl lk_ES_20 rfl d_ES_nextGroup_106 ?_
          refine lv_iconst (v := nI 1) hx hb d_ES_nextGroup_109 (by decide) ?_
          refine lv_iadd hx hb d_ES_nextGroup_110 ?_
          refine zr_top (y := nI (i + 1)) (nI_add i 1) ?_
          refine es_put C hw rfl lk_ES_20 rfl rfl rfl (Nat.le_of_ble_eq_true rfl) (W1 := esW cI q w (S * w) (S + 1) wl fk fv fp sk sv ats ens wn held spilled fed true runs size (consumed + i) 2 (K (ordf K fed consumed)) value (nI (i + 1)) (gSum V (ordf K fed) consumed i) (gMin V (ordf K fed) consumed i) (gMax V (ordf K fed) consumed i)) rfl d_ES_nextGroup_111 (fun H locs hw => ?_)
          refine lv_aload_n hx hb d_ES_nextGroup_114 rfl (lv_at hl 1 rfl) ?_
          refine lv_dup hx hb d_ES_nextGroup_115 rfl ?_
          refine es_get C hw rfl lk_ES_21 rfl d_ES_nextGroup_116 ?_
          refine lv_iload_n hx hb d_ES_nextGroup_119 rfl (lv_at hl 0 rfl) ?_
          refine lv_iadd hx hb d_ES_nextGroup_120 ?_
          refine zr_top (y := gSum V (ordf K fed) consumed (i + 1)) rfl ?_
          refine es_put C hw rfl lk_ES_21 rfl rfl rfl (Nat.le_of_ble_eq_true rfl) (W1 := esW cI q w (S * w) (S + 1) wl fk fv fp sk sv ats ens wn held spilled fed true runs size (consumed + i) 2 (K (ordf K fed consumed)) value (nI (i + 1)) (gSum V (ordf K fed) consumed (i + 1)) (gMin V (ordf K fed) consumed i) (gMax V (ordf K fed) consumed i)) rfl d_ES_nextGroup_121 (fun H locs hw => ?_)
          refine lv_aload_n hx hb d_ES_nextGroup_124 rfl (lv_at hl 1 rfl) ?_
          refine lv_aload_n hx hb d_ES_nextGroup_125 rfl (lv_at hl 1 rfl) ?_
          refine es_get C hw rfl lk_ES_22 rfl d_ES_nextGroup_126 ?_
          refine lv_iload_n hx hb d_ES_nextGroup_129 rfl (lv_at hl 0 rfl) ?_
          refine zr_min C hl.1 (Nat.le_of_ble_eq_true rfl) (Nat.le_of_ble_eq_true rfl) (Nat.le_refl _) (Nat.le_refl _) d_ES_nextGroup_130 ?_
          refine zr_top (y := gMin V (ordf K fed) consumed (i + 1)) rfl ?_
          refine es_put C hw rfl lk_ES_22 rfl rfl rfl (Nat.le_of_ble_eq_true rfl) (W1 := esW cI q w (S * w) (S + 1) wl fk fv fp sk sv ats ens wn held spilled fed true runs size (consumed + i) 2 (K (ordf K fed consumed)) value (nI (i + 1)) (gSum V (ordf K fed) consumed (i + 1)) (gMin V (ordf K fed) consumed (i + 1)) (gMax V (ordf K fed) consumed i)) rfl d_ES_nextGroup_133 (fun H locs hw => ?_)
          refine lv_aload_n hx hb d_ES_nextGroup_136 rfl (lv_at hl 1 rfl) ?_
          refine lv_aload_n hx hb d_ES_nextGroup_137 rfl (lv_at hl 1 rfl) ?_
          refine es_get C hw rfl lk_ES_23 rfl d_ES_nextGroup_138 ?_
          refine lv_iload_n hx hb d_ES_nextGroup_141 rfl (lv_at hl 0 rfl) ?_
          refine zr_max C hl.1 (Nat.le_of_ble_eq_true rfl) (Nat.le_of_ble_eq_true rfl) (Nat.le_refl _) (Nat.le_refl _) d_ES_nextGroup_142 ?_
          refine zr_top (y := gMax V (ordf K fed) consumed (i + 1)) rfl ?_
          refine es_put C hw rfl lk_ES_23 rfl rfl rfl (Nat.le_of_ble_eq_true rfl) (W1 := esW cI q w (S * w) (S + 1) wl fk fv fp sk sv ats ens wn held spilled fed true runs size (consumed + i) 2 (K (ordf K fed consumed)) value (nI (i + 1)) (gSum V (ordf K fed) consumed (i + 1)) (gMin V (ordf K fed) consumed (i + 1)) (gMax V (ordf K fed) consumed (i + 1))) rfl d_ES_nextGroup_145 (fun H locs hw => ?_)
          refine lv_aload_n hx hb d_ES_nextGroup_148 rfl (lv_at hl 1 rfl) ?_
          refine zr_callv0 (As := []) (rest := []) C hA hw hl.1 g_ES_ES_pass (c_ES_pass hG2 hrep hc) h_ES_pass ⟨Nat.le_of_ble_eq_true rfl, Nat.le_of_ble_eq_true rfl⟩ rfl rfl rfl (Nat.le_of_ble_eq_true rfl) d_ES_nextGroup_149 ⟨rfl, rfl⟩ ⟨Nat.zero_le _, Nat.zero_le _⟩ (fun u H locs hres hw => ?_)
          obtain ⟨fk, fv, fp, sk, sv, ats, ens, wn, held, spilled, runs, size⟩ := u
          have hw : Wd D (tyL cI cZ cJ) A s H locs (esW cI q w (S * w) (S + 1) wl fk fv fp sk sv ats ens wn held spilled fed true runs size (consumed + i + 1) 2 (K (ordf K fed consumed)) value (nI (i + 1)) (gSum V (ordf K fed) consumed (i + 1)) (gMin V (ordf K fed) consumed (i + 1)) (gMax V (ordf K fed) consumed (i + 1))) := hw
          have hrep := hres
          refine lv_goto (tgt := 72) hx hb d_ES_nextGroup_152 (by decide) ?_
          exact ih (i + 1) fk fv fp sk sv ats ens wn held spilled runs size H locs ls (by omega) (by rw [glen_1 hc h92] at hN; rw [← hN, Nat.add_assoc consumed i 1]; omega) hrep hw (lv_sub hl [1] rfl)
    · obtain ⟨hrr, hSS⟩ := hrep.se
      obtain ⟨hn1, hn2, hn3, hn4, hn5, hTI⟩ := hSS.nums
      have hbot := hSS.bot hw0 hwb hS (by omega)
      refine lv_aload_n hx hb d_ES_nextGroup_72 rfl (lv_at hl 0 rfl) ?_
      refine zr_calli0 (As := []) (rest := []) C hA hw hl.1 g_ES_ES_top (c_ES_top (by omega) hwl) h_ES_top ⟨Nat.le_of_ble_eq_true rfl, Nat.le_of_ble_eq_true rfl⟩ rfl rfl rfl (Nat.le_of_ble_eq_true rfl) d_ES_nextGroup_73 ⟨rfl, rfl⟩ ⟨Nat.zero_le _, Nat.zero_le _⟩ (fun r u H locs hres hw => ?_)
      have hw : Wd D (tyL cI cZ cJ) A s H locs (esW cI q w (S * w) (S + 1) wl fk fv fp sk sv ats ens wn held spilled fed true runs size (consumed + i) 2 (K (ordf K fed consumed)) value (nI i) (gSum V (ordf K fed) consumed i) (gMin V (ordf K fed) consumed i) (gMax V (ordf K fed) consumed i)) := hw
      refine zr_top (y := wI (wn 1)) hres ?_
      refine zr_top (y := -1) (by rw [hbot]; rfl) ?_
      refine lv_iconst (v := (-1)) hx hb d_ES_nextGroup_76 (by decide) ?_
      refine lv_icmp_eq (tgt := 155) hx hb d_ES_nextGroup_77 (by decide) (fun h77 => ?_) (fun h77 => ?_)
      · refine lv_iconst (v := 2) hx hb d_ES_nextGroup_155 (by decide) ?_
        have ei : i = N := by rw [glen_0 (by omega)] at hN; omega
        subst ei
        exact zr_iret C (fk, fv, fp, sk, sv, ats, ens, wn, held, spilled, runs, size) ⟨rfl, hrep⟩ hw d_ES_nextGroup_156
      · exact absurd rfl h77
set_option maxHeartbeats 4000000 in
set_option maxRecDepth 100000 in
theorem c_ES_nextGroup_g (hG : Geo w S wl) (hrep : RepE w S wl K V fed r true consumed (fk, fv, fp, sk, sv, ats, ens, wn, held, spilled, runs, size)) (hc : consumed < fed) : MetI l y_ES_nextGroup b_ES_nextGroup 2 (some .int) (rmF 4 88) D (tyL cI cZ cJ) [.ref (q 0)] (esW cI q w (S * w) (S + 1) wl fk fv fp sk sv ats ens wn held spilled fed true runs size consumed current key value many sum least greatest) sz (fun res (u : ESt) => res = 2 ∧ RepE w S wl K V fed r true (consumed + glen K (ordf K fed) fed (K (ordf K fed consumed)) fed consumed) u) (fun u => esU cI q w (S * w) (S + 1) wl u fed true (consumed + glen K (ordf K fed) fed (K (ordf K fed consumed)) fed consumed) 2 (K (ordf K fed consumed)) value (nI (glen K (ordf K fed) fed (K (ordf K fed consumed)) fed consumed)) (gSum V (ordf K fed) consumed (glen K (ordf K fed) fed (K (ordf K fed consumed)) fed consumed)) (gMin V (ordf K fed) consumed (glen K (ordf K fed) fed (K (ordf K fed consumed)) fed consumed)) (gMax V (ordf K fed) consumed (glen K (ordf K fed) fed (K (ordf K fed consumed)) fed consumed))) := by
  have hG2 := hG
  obtain ⟨hw0, hwb, hS, hS2, hwl, eG, hwl2, hSe⟩ := hG
  refine MetI.of (by decide) (Nat.le_of_ble_eq_true rfl) ?_
  intro p e s m below meth c A ls C hnm hA hw hl
  have hx := C.1.1
  have hb := C.1.2.1
  have hl : lv_has ls 2 [(0, .ref (q 0))] := hl
  obtain ⟨hrr, hSS⟩ := hrep.se
  obtain ⟨hn1, hn2, hn3, hn4, hn5, hTI⟩ := hSS.nums
  obtain ⟨k, hk1, hk2, hk3, hk4, hk5⟩ := hSS.top hw0 hwb hS hS2 hc
  have hvk := fun (j : Nat) (hj : j < runs) => hSS.vk hwb hS hj
  refine lv_aload_n hx hb d_ES_nextGroup_0 rfl (lv_at hl 0 rfl) ?_
  refine es_get C hw rfl lk_ES_10 rfl d_ES_nextGroup_1 ?_
  refine zr_bne hx hb (tgt := 10) d_ES_nextGroup_4 (by decide) (fun h4 => ?_) (fun h4 => ?_)
  · refine lv_aload_n hx hb d_ES_nextGroup_10 rfl (lv_at hl 0 rfl) ?_
    refine lv_iconst (v := 0) hx hb d_ES_nextGroup_11 (by decide) ?_
    refine es_put C hw rfl lk_ES_17 rfl rfl rfl (Nat.le_of_ble_eq_true rfl) (W1 := esW cI q w (S * w) (S + 1) wl fk fv fp sk sv ats ens wn held spilled fed true runs size consumed 0 key value many sum least greatest) rfl d_ES_nextGroup_12 (fun H locs hw => ?_)
    refine lv_aload_n hx hb d_ES_nextGroup_15 rfl (lv_at hl 0 rfl) ?_
    refine zr_calli0 (As := []) (rest := []) C hA hw hl.1 g_ES_ES_top (c_ES_top (by omega) hwl) h_ES_top ⟨Nat.le_of_ble_eq_true rfl, Nat.le_of_ble_eq_true rfl⟩ rfl rfl rfl (Nat.le_of_ble_eq_true rfl) d_ES_nextGroup_16 ⟨rfl, rfl⟩ ⟨Nat.zero_le _, Nat.zero_le _⟩ (fun r u H locs hres hw => ?_)
    have hw : Wd D (tyL cI cZ cJ) A s H locs (esW cI q w (S * w) (S + 1) wl fk fv fp sk sv ats ens wn held spilled fed true runs size consumed 0 key value many sum least greatest) := hw
    refine zr_top (y := wI (wn 1)) hres ?_
    refine zr_top (y := nI k) (by rw [hk1]; rfl) ?_
    refine lv_iconst (v := (-1)) hx hb d_ES_nextGroup_19 (by decide) ?_
    refine lv_icmp_ne (tgt := 25) hx hb d_ES_nextGroup_20 (by decide) (fun h20 => ?_) (fun h20 => ?_)
    · refine lv_aload_n hx hb d_ES_nextGroup_25 rfl (lv_at hl 0 rfl) ?_
      refine lv_iconst (v := 2) hx hb d_ES_nextGroup_26 (by decide) ?_
      refine es_put C hw rfl lk_ES_17 rfl rfl rfl (Nat.le_of_ble_eq_true rfl) (W1 := esW cI q w (S * w) (S + 1) wl fk fv fp sk sv ats ens wn held spilled fed true runs size consumed 2 key value many sum least greatest) rfl d_ES_nextGroup_27 (fun H locs hw => ?_)
      refine lv_aload_n hx hb d_ES_nextGroup_30 rfl (lv_at hl 0 rfl) ?_
      refine lv_aload_n hx hb d_ES_nextGroup_31 rfl (lv_at hl 0 rfl) ?_
      refine lv_aload_n hx hb d_ES_nextGroup_32 rfl (lv_at hl 0 rfl) ?_
      refine zr_calli0 (As := []) (rest := [.ref (q 0), .ref (q 0)]) C hA hw hl.1 g_ES_ES_top (c_ES_top (by omega) hwl) h_ES_top ⟨Nat.le_of_ble_eq_true rfl, Nat.le_of_ble_eq_true rfl⟩ rfl rfl rfl (Nat.le_of_ble_eq_true rfl) d_ES_nextGroup_33 ⟨rfl, rfl⟩ ⟨Nat.zero_le _, Nat.zero_le _⟩ (fun r u H locs hres hw => ?_)
      have hw : Wd D (tyL cI cZ cJ) A s H locs (esW cI q w (S * w) (S + 1) wl fk fv fp sk sv ats ens wn held spilled fed true runs size consumed 2 key value many sum least greatest) := hw
      refine zr_top (y := wI (wn 1)) hres ?_
      refine zr_top (y := nI k) (by rw [hk1]; rfl) ?_
      refine zr_calli0 (As := [.int (nI k)]) (rest := [.ref (q 0)]) C hA hw hl.1 g_ES_ES_keyOf (c_ES_keyOf (hvk k hk2).1 ((hvk k hk2).2.2.2 hk3) hn1 (by omega) (by omega) hwb hS) h_ES_keyOf ⟨Nat.le_of_ble_eq_true rfl, Nat.le_of_ble_eq_true rfl⟩ rfl rfl rfl (Nat.le_of_ble_eq_true rfl) d_ES_nextGroup_36 ⟨rfl, rfl⟩ ⟨Nat.zero_le _, Nat.zero_le _⟩ (fun r u H locs hres hw => ?_)
      have hw : Wd D (tyL cI cZ cJ) A s H locs (esW cI q w (S * w) (S + 1) wl fk fv fp sk sv ats ens wn held spilled fed true runs size consumed 2 key value many sum least greatest) := hw
      refine zr_top (y := kfF fk sk ats runs k) hres ?_
      refine zr_top (y := K (ordf K fed (consumed))) hk4 ?_
      refine es_put C hw rfl lk_ES_18 rfl rfl rfl (Nat.le_of_ble_eq_true rfl) (W1 := esW cI q w (S * w) (S + 1) wl fk fv fp sk sv ats ens wn held spilled fed true runs size consumed 2 (K (ordf K fed (consumed))) value many sum least greatest) rfl d_ES_nextGroup_39 (fun H locs hw => ?_)
      refine lv_aload_n hx hb d_ES_nextGroup_42 rfl (lv_at hl 0 rfl) ?_
      refine lv_iconst (v := nI 0) hx hb d_ES_nextGroup_43 (by decide) ?_
      refine es_put C hw rfl lk_ES_20 rfl rfl rfl (Nat.le_of_ble_eq_true rfl) (W1 := esW cI q w (S * w) (S + 1) wl fk fv fp sk sv ats ens wn held spilled fed true runs size consumed 2 (K (ordf K fed (consumed))) value (nI 0) sum least greatest) rfl d_ES_nextGroup_44 (fun H locs hw => ?_)
      refine lv_aload_n hx hb d_ES_nextGroup_47 rfl (lv_at hl 0 rfl) ?_
      refine lv_iconst (v := 0) hx hb d_ES_nextGroup_48 (by decide) ?_
      refine es_put C hw rfl lk_ES_21 rfl rfl rfl (Nat.le_of_ble_eq_true rfl) (W1 := esW cI q w (S * w) (S + 1) wl fk fv fp sk sv ats ens wn held spilled fed true runs size consumed 2 (K (ordf K fed (consumed))) value (nI 0) 0 least greatest) rfl d_ES_nextGroup_49 (fun H locs hw => ?_)
      refine lv_aload_n hx hb d_ES_nextGroup_52 rfl (lv_at hl 0 rfl) ?_
      refine lv_aload_n hx hb d_ES_nextGroup_53 rfl (lv_at hl 0 rfl) ?_
      refine lv_aload_n hx hb d_ES_nextGroup_54 rfl (lv_at hl 0 rfl) ?_
      refine zr_calli0 (As := []) (rest := [.ref (q 0), .ref (q 0)]) C hA hw hl.1 g_ES_ES_top (c_ES_top (by omega) hwl) h_ES_top ⟨Nat.le_of_ble_eq_true rfl, Nat.le_of_ble_eq_true rfl⟩ rfl rfl rfl (Nat.le_of_ble_eq_true rfl) d_ES_nextGroup_55 ⟨rfl, rfl⟩ ⟨Nat.zero_le _, Nat.zero_le _⟩ (fun r u H locs hres hw => ?_)
      have hw : Wd D (tyL cI cZ cJ) A s H locs (esW cI q w (S * w) (S + 1) wl fk fv fp sk sv ats ens wn held spilled fed true runs size consumed 2 (K (ordf K fed (consumed))) value (nI 0) 0 least greatest) := hw
      refine zr_top (y := wI (wn 1)) hres ?_
      refine zr_top (y := nI k) (by rw [hk1]; rfl) ?_
      refine zr_calli0 (As := [.int (nI k)]) (rest := [.ref (q 0)]) C hA hw hl.1 g_ES_ES_valueOf (c_ES_valueOf (hvk k hk2).1 ((hvk k hk2).2.2.2 hk3) hn1 (by omega) (by omega) hwb hS) h_ES_valueOf ⟨Nat.le_of_ble_eq_true rfl, Nat.le_of_ble_eq_true rfl⟩ rfl rfl rfl (Nat.le_of_ble_eq_true rfl) d_ES_nextGroup_58 ⟨rfl, rfl⟩ ⟨Nat.zero_le _, Nat.zero_le _⟩ (fun r u H locs hres hw => ?_)
      have hw : Wd D (tyL cI cZ cJ) A s H locs (esW cI q w (S * w) (S + 1) wl fk fv fp sk sv ats ens wn held spilled fed true runs size consumed 2 (K (ordf K fed (consumed))) value (nI 0) 0 least greatest) := hw
      refine zr_top (y := kfF fv sv ats runs k) hres ?_
      refine zr_top (y := V (ordf K fed (consumed))) hk5 ?_
      refine es_put C hw rfl lk_ES_22 rfl rfl rfl (Nat.le_of_ble_eq_true rfl) (W1 := esW cI q w (S * w) (S + 1) wl fk fv fp sk sv ats ens wn held spilled fed true runs size consumed 2 (K (ordf K fed (consumed))) value (nI 0) 0 (V (ordf K fed (consumed))) greatest) rfl d_ES_nextGroup_61 (fun H locs hw => ?_)
      refine lv_aload_n hx hb d_ES_nextGroup_64 rfl (lv_at hl 0 rfl) ?_
      refine lv_aload_n hx hb d_ES_nextGroup_65 rfl (lv_at hl 0 rfl) ?_
      refine es_get C hw rfl lk_ES_22 rfl d_ES_nextGroup_66 ?_
      refine es_put C hw rfl lk_ES_23 rfl rfl rfl (Nat.le_of_ble_eq_true rfl) (W1 := esW cI q w (S * w) (S + 1) wl fk fv fp sk sv ats ens wn held spilled fed true runs size consumed 2 (K (ordf K fed (consumed))) value (nI 0) 0 (V (ordf K fed (consumed))) (V (ordf K fed (consumed)))) rfl d_ES_nextGroup_69 (fun H locs hw => ?_)
      have hw : Wd D (tyL cI cZ cJ) A s H locs (esW cI q w (S * w) (S + 1) wl fk fv fp sk sv ats ens wn held spilled fed true runs size (consumed + 0) 2 (K (ordf K fed consumed)) value (nI 0) (gSum V (ordf K fed) consumed 0) (gMin V (ordf K fed) consumed 0) (gMax V (ordf K fed) consumed 0)) := hw
      exact lp_ES_nextGroup hG2 C hA fed 0 fk fv fp sk sv ats ens wn held spilled runs size H locs ls (by omega) (by rw [Nat.zero_add, Nat.add_zero]) hrep hw hl
    · exact absurd h20 (nI_m1 (by omega))
  · exact absurd h4 (by decide)
set_option maxHeartbeats 4000000 in
set_option maxRecDepth 100000 in
theorem c_ES_skipTo_u {kx : Int32} : MetI l y_ES_skipTo b_ES_skipTo 3 (some .int) (rmF 4 88) D (tyL cI cZ cJ) [.ref (q 0), .int kx] (esW cI q w (S * w) (S + 1) wl fk fv fp sk sv ats ens wn held spilled fed false runs size consumed current key value many sum least greatest) sz (fun res (_ : Unit) => res = -4) (fun _ => esW cI q w (S * w) (S + 1) wl fk fv fp sk sv ats ens wn held spilled fed false runs size consumed current key value many sum least greatest) := by
  refine MetI.of (by decide) (Nat.le_of_ble_eq_true rfl) ?_
  intro p e s m below meth c A ls C hnm hA hw hl
  have hx := C.1.1
  have hb := C.1.2.1
  have hl : lv_has ls 3 [(0, .ref (q 0)), (1, .int kx)] := hl
  refine lv_aload_n hx hb d_ES_skipTo_0 rfl (lv_at hl 0 rfl) ?_
  refine es_get C hw rfl lk_ES_10 rfl d_ES_skipTo_1 ?_
  refine zr_bne hx hb (tgt := 10) d_ES_skipTo_4 (by decide) (fun h4 => ?_) (fun h4 => ?_)
  · exact absurd h4 (by decide)
  · refine lv_bipush (v := (-4)) hx hb d_ES_skipTo_7 (by decide) ?_
    exact zr_iret C () rfl hw d_ES_skipTo_9
set_option maxHeartbeats 4000000 in
set_option maxRecDepth 100000 in
theorem lp_ES_skipTo {p : Program} {e : Env} {s : State} {m : MethodId} {args : Array Value} {below : List Frame} {meth : Method} {c : Code} {A : Nat → Prop} (hG : Geo w S wl) (C : Cx p m meth c b_ES_skipTo 3 (some .int) s args R_ES) (hA : ∀ q : Nat, s.heap.size ≤ q → A q) {N : Nat} {kx : Int32} : ∀ (f i : Nat) (fk fv fp sk sv : Nat → Int32) (ats ens : Nat → Nat) (wn : Nat → Option Nat) (held spilled runs size : Nat) (H : Heap) (locs : List Loc) (ls : Array Slot), fed ≤ consumed + i + f → i + slen K (ordf K fed) fed kx f (consumed + i) = N → RepE w S wl K V fed r true (consumed + i) (fk, fv, fp, sk, sv, ats, ens, wn, held, spilled, runs, size) → Wd D (tyL cI cZ cJ) A s H locs (esW cI q w (S * w) (S + 1) wl fk fv fp sk sv ats ens wn held spilled fed true runs size (consumed + i) 0 key value many sum least greatest) → lv_has ls 3 [(2, .int (nI consumed)), (0, .ref (q 0)), (1, .int kx)] → W p l e (rmF 4 88) s m args below meth c H locs 0 0 (MQ below (va_Qi (fun res (u : ESt) => res = nI N ∧ RepE w S wl K V fed r true (consumed + N) u) (cB D (tyL cI cZ cJ) A (fun u => esU cI q w (S * w) (S + 1) wl u fed true (consumed + N) 0 key value many sum least greatest)) A) args s 0 0 A) (F0 m 20 ls []) := by
  have hx := C.1.1
  have hb := C.1.2.1
  have hG2 := hG
  obtain ⟨hw0, hwb, hS, hS2, hwl, eG, hwl2, hSe⟩ := hG
  intro f
  induction f with
  | zero =>
    intro i fk fv fp sk sv ats ens wn held spilled runs size H locs ls hf hN hrep hw hl
    obtain ⟨hrr, hSS⟩ := hrep.se
    obtain ⟨hn1, hn2, hn3, hn4, hn5, hTI⟩ := hSS.nums
    have hbot := hSS.bot hw0 hwb hS (by omega)
    refine lv_aload_n hx hb d_ES_skipTo_20 rfl (lv_at hl 1 rfl) ?_
    refine zr_calli0 (As := []) (rest := []) C hA hw hl.1 g_ES_ES_top (c_ES_top (by omega) hwl) h_ES_top ⟨Nat.le_of_ble_eq_true rfl, Nat.le_of_ble_eq_true rfl⟩ rfl rfl rfl (Nat.le_of_ble_eq_true rfl) d_ES_skipTo_21 ⟨rfl, rfl⟩ ⟨Nat.zero_le _, Nat.zero_le _⟩ (fun r u H locs hres hw => ?_)
    have hw : Wd D (tyL cI cZ cJ) A s H locs (esW cI q w (S * w) (S + 1) wl fk fv fp sk sv ats ens wn held spilled fed true runs size (consumed + i) 0 key value many sum least greatest) := hw
    refine zr_top (y := wI (wn 1)) hres ?_
    refine zr_top (y := -1) (by rw [hbot]; rfl) ?_
    refine lv_iconst (v := (-1)) hx hb d_ES_skipTo_24 (by decide) ?_
    refine lv_icmp_eq (tgt := 47) hx hb d_ES_skipTo_25 (by decide) (fun h25 => ?_) (fun h25 => ?_)
    · have ei : i = N := by rw [slen_0 (by omega)] at hN; omega
      subst ei
      refine lv_aload_n hx hb d_ES_skipTo_47 rfl (lv_at hl 1 rfl) ?_
      refine es_get C hw rfl lk_ES_16 rfl d_ES_skipTo_48 ?_
      refine lv_iload_n hx hb d_ES_skipTo_51 rfl (lv_at hl 0 rfl) ?_
      refine zr_sub hx hb (by omega) d_ES_skipTo_52 ?_
      refine zr_top (y := nI i) (congrArg nI (by omega)) ?_
      exact zr_iret C (fk, fv, fp, sk, sv, ats, ens, wn, held, spilled, runs, size) ⟨rfl, hrep⟩ hw d_ES_skipTo_53
    · exact absurd rfl h25
  | succ f ih =>
    intro i fk fv fp sk sv ats ens wn held spilled runs size H locs ls hf hN hrep hw hl
    by_cases hc : consumed + i < fed
    · obtain ⟨hrr, hSS⟩ := hrep.se
      obtain ⟨hn1, hn2, hn3, hn4, hn5, hTI⟩ := hSS.nums
      obtain ⟨k, hk1, hk2, hk3, hk4, hk5⟩ := hSS.top hw0 hwb hS hS2 hc
      have hvk := fun (j : Nat) (hj : j < runs) => hSS.vk hwb hS hj
      refine lv_aload_n hx hb d_ES_skipTo_20 rfl (lv_at hl 1 rfl) ?_
      refine zr_calli0 (As := []) (rest := []) C hA hw hl.1 g_ES_ES_top (c_ES_top (by omega) hwl) h_ES_top ⟨Nat.le_of_ble_eq_true rfl, Nat.le_of_ble_eq_true rfl⟩ rfl rfl rfl (Nat.le_of_ble_eq_true rfl) d_ES_skipTo_21 ⟨rfl, rfl⟩ ⟨Nat.zero_le _, Nat.zero_le _⟩ (fun r u H locs hres hw => ?_)
      have hw : Wd D (tyL cI cZ cJ) A s H locs (esW cI q w (S * w) (S + 1) wl fk fv fp sk sv ats ens wn held spilled fed true runs size (consumed + i) 0 key value many sum least greatest) := hw
      refine zr_top (y := wI (wn 1)) hres ?_
      refine zr_top (y := nI k) (by rw [hk1]; rfl) ?_
      refine lv_iconst (v := (-1)) hx hb d_ES_skipTo_24 (by decide) ?_
      refine lv_icmp_eq (tgt := 47) hx hb d_ES_skipTo_25 (by decide) (fun h25 => ?_) (fun h25 => ?_)
      · exact absurd h25 (nI_m1 (by omega))
      · refine lv_aload_n hx hb d_ES_skipTo_28 rfl (lv_at hl 1 rfl) ?_
        refine lv_aload_n hx hb d_ES_skipTo_29 rfl (lv_at hl 1 rfl) ?_
        refine zr_calli0 (As := []) (rest := [.ref (q 0)]) C hA hw hl.1 g_ES_ES_top (c_ES_top (by omega) hwl) h_ES_top ⟨Nat.le_of_ble_eq_true rfl, Nat.le_of_ble_eq_true rfl⟩ rfl rfl rfl (Nat.le_of_ble_eq_true rfl) d_ES_skipTo_30 ⟨rfl, rfl⟩ ⟨Nat.zero_le _, Nat.zero_le _⟩ (fun r u H locs hres hw => ?_)
        have hw : Wd D (tyL cI cZ cJ) A s H locs (esW cI q w (S * w) (S + 1) wl fk fv fp sk sv ats ens wn held spilled fed true runs size (consumed + i) 0 key value many sum least greatest) := hw
        refine zr_top (y := wI (wn 1)) hres ?_
        refine zr_top (y := nI k) (by rw [hk1]; rfl) ?_
        refine zr_calli0 (As := [.int (nI k)]) (rest := []) C hA hw hl.1 g_ES_ES_keyOf (c_ES_keyOf (hvk k hk2).1 ((hvk k hk2).2.2.2 hk3) hn1 (by omega) (by omega) hwb hS) h_ES_keyOf ⟨Nat.le_of_ble_eq_true rfl, Nat.le_of_ble_eq_true rfl⟩ rfl rfl rfl (Nat.le_of_ble_eq_true rfl) d_ES_skipTo_33 ⟨rfl, rfl⟩ ⟨Nat.zero_le _, Nat.zero_le _⟩ (fun r u H locs hres hw => ?_)
        have hw : Wd D (tyL cI cZ cJ) A s H locs (esW cI q w (S * w) (S + 1) wl fk fv fp sk sv ats ens wn held spilled fed true runs size (consumed + i) 0 key value many sum least greatest) := hw
        refine zr_top (y := kfF fk sk ats runs k) hres ?_
        refine zr_top (y := K (ordf K fed (consumed + i))) hk4 ?_
        refine lv_iload_n hx hb d_ES_skipTo_36 rfl (lv_at hl 2 rfl) ?_
        refine lv_icmp_ge (tgt := 47) hx hb d_ES_skipTo_37 (by decide) (fun h37 => ?_) (fun h37 => ?_)
        · have ei : i = N := by rw [slen_0 (fun z => Int32.not_lt.mpr h37 z.2)] at hN; omega
          subst ei
          refine lv_aload_n hx hb d_ES_skipTo_47 rfl (lv_at hl 1 rfl) ?_
          refine es_get C hw rfl lk_ES_16 rfl d_ES_skipTo_48 ?_
          refine lv_iload_n hx hb d_ES_skipTo_51 rfl (lv_at hl 0 rfl) ?_
          refine zr_sub hx hb (by omega) d_ES_skipTo_52 ?_
          refine zr_top (y := nI i) (congrArg nI (by omega)) ?_
          exact zr_iret C (fk, fv, fp, sk, sv, ats, ens, wn, held, spilled, runs, size) ⟨rfl, hrep⟩ hw d_ES_skipTo_53
        · refine lv_aload_n hx hb d_ES_skipTo_40 rfl (lv_at hl 1 rfl) ?_
          refine zr_callv0 (As := []) (rest := []) C hA hw hl.1 g_ES_ES_pass (c_ES_pass hG2 hrep hc) h_ES_pass ⟨Nat.le_of_ble_eq_true rfl, Nat.le_of_ble_eq_true rfl⟩ rfl rfl rfl (Nat.le_of_ble_eq_true rfl) d_ES_skipTo_41 ⟨rfl, rfl⟩ ⟨Nat.zero_le _, Nat.zero_le _⟩ (fun u H locs hres hw => ?_)
          obtain ⟨fk, fv, fp, sk, sv, ats, ens, wn, held, spilled, runs, size⟩ := u
          have hw : Wd D (tyL cI cZ cJ) A s H locs (esW cI q w (S * w) (S + 1) wl fk fv fp sk sv ats ens wn held spilled fed true runs size (consumed + i + 1) 0 key value many sum least greatest) := hw
          have hrep := hres
          refine lv_goto (tgt := 20) hx hb d_ES_skipTo_44 (by decide) ?_
          exact ih (i + 1) fk fv fp sk sv ats ens wn held spilled runs size H locs ls (by omega) (by rw [slen_1 hc (Int32.not_le.mp h37)] at hN; rw [← hN, Nat.add_assoc consumed i 1]; omega) hrep hw hl
    · obtain ⟨hrr, hSS⟩ := hrep.se
      obtain ⟨hn1, hn2, hn3, hn4, hn5, hTI⟩ := hSS.nums
      have hbot := hSS.bot hw0 hwb hS (by omega)
      refine lv_aload_n hx hb d_ES_skipTo_20 rfl (lv_at hl 1 rfl) ?_
      refine zr_calli0 (As := []) (rest := []) C hA hw hl.1 g_ES_ES_top (c_ES_top (by omega) hwl) h_ES_top ⟨Nat.le_of_ble_eq_true rfl, Nat.le_of_ble_eq_true rfl⟩ rfl rfl rfl (Nat.le_of_ble_eq_true rfl) d_ES_skipTo_21 ⟨rfl, rfl⟩ ⟨Nat.zero_le _, Nat.zero_le _⟩ (fun r u H locs hres hw => ?_)
      have hw : Wd D (tyL cI cZ cJ) A s H locs (esW cI q w (S * w) (S + 1) wl fk fv fp sk sv ats ens wn held spilled fed true runs size (consumed + i) 0 key value many sum least greatest) := hw
      refine zr_top (y := wI (wn 1)) hres ?_
      refine zr_top (y := -1) (by rw [hbot]; rfl) ?_
      refine lv_iconst (v := (-1)) hx hb d_ES_skipTo_24 (by decide) ?_
      refine lv_icmp_eq (tgt := 47) hx hb d_ES_skipTo_25 (by decide) (fun h25 => ?_) (fun h25 => ?_)
      · have ei : i = N := by rw [slen_0 (by omega)] at hN; omega
        subst ei
        refine lv_aload_n hx hb d_ES_skipTo_47 rfl (lv_at hl 1 rfl) ?_
        refine es_get C hw rfl lk_ES_16 rfl d_ES_skipTo_48 ?_
        refine lv_iload_n hx hb d_ES_skipTo_51 rfl (lv_at hl 0 rfl) ?_
        refine zr_sub hx hb (by omega) d_ES_skipTo_52 ?_
        refine zr_top (y := nI i) (congrArg nI (by omega)) ?_
        exact zr_iret C (fk, fv, fp, sk, sv, ats, ens, wn, held, spilled, runs, size) ⟨rfl, hrep⟩ hw d_ES_skipTo_53
      · exact absurd rfl h25
set_option maxHeartbeats 4000000 in
set_option maxRecDepth 100000 in
theorem c_ES_skipTo_g (hG : Geo w S wl) {kx : Int32} (hrep : RepE w S wl K V fed r true consumed (fk, fv, fp, sk, sv, ats, ens, wn, held, spilled, runs, size)) : MetI l y_ES_skipTo b_ES_skipTo 3 (some .int) (rmF 4 88) D (tyL cI cZ cJ) [.ref (q 0), .int kx] (esW cI q w (S * w) (S + 1) wl fk fv fp sk sv ats ens wn held spilled fed true runs size consumed current key value many sum least greatest) sz (fun res (u : ESt) => res = nI (slen K (ordf K fed) fed kx fed consumed) ∧ RepE w S wl K V fed r true (consumed + slen K (ordf K fed) fed kx fed consumed) u) (fun u => esU cI q w (S * w) (S + 1) wl u fed true (consumed + slen K (ordf K fed) fed kx fed consumed) 0 key value many sum least greatest) := by
  refine MetI.of (by decide) (Nat.le_of_ble_eq_true rfl) ?_
  intro p e s m below meth c A ls C hnm hA hw hl
  have hx := C.1.1
  have hb := C.1.2.1
  have hl : lv_has ls 3 [(0, .ref (q 0)), (1, .int kx)] := hl
  refine lv_aload_n hx hb d_ES_skipTo_0 rfl (lv_at hl 0 rfl) ?_
  refine es_get C hw rfl lk_ES_10 rfl d_ES_skipTo_1 ?_
  refine zr_bne hx hb (tgt := 10) d_ES_skipTo_4 (by decide) (fun h4 => ?_) (fun h4 => ?_)
  · refine lv_aload_n hx hb d_ES_skipTo_10 rfl (lv_at hl 0 rfl) ?_
    refine lv_iconst (v := 0) hx hb d_ES_skipTo_11 (by decide) ?_
    refine es_put C hw rfl lk_ES_17 rfl rfl rfl (Nat.le_of_ble_eq_true rfl) (W1 := esW cI q w (S * w) (S + 1) wl fk fv fp sk sv ats ens wn held spilled fed true runs size consumed 0 key value many sum least greatest) rfl d_ES_skipTo_12 (fun H locs hw => ?_)
    refine lv_aload_n hx hb d_ES_skipTo_15 rfl (lv_at hl 0 rfl) ?_
    refine es_get C hw rfl lk_ES_16 rfl d_ES_skipTo_16 ?_
    refine lv_istore_n (lv' := [(2, .int (nI consumed)), (0, .ref (q 0)), (1, .int kx)]) hx hb d_ES_skipTo_19 rfl hl (by decide) rfl (fun ls hl => ?_)
    have hw : Wd D (tyL cI cZ cJ) A s H locs (esW cI q w (S * w) (S + 1) wl fk fv fp sk sv ats ens wn held spilled fed true runs size (consumed + 0) 0 key value many sum least greatest) := hw
    exact lp_ES_skipTo hG C hA fed 0 fk fv fp sk sv ats ens wn held spilled runs size H locs ls (by omega) (by rw [Nat.zero_add, Nat.add_zero]) hrep hw (lv_sub hl [0, 1, 2] rfl)
  · exact absurd h4 (by decide)
end ES4
end
section
/-! ===== ExternalSorterModel (walks printed by gen/em1.py) ===== -/
theorem spF_n {w fed r : Nat} (h : fed - r * w ≠ w) (h1 : r * w ≤ fed) : spF w fed r = r := by unfold spF; rw [if_neg (by omega)]
theorem spF_y {w fed r : Nat} (h : fed - r * w = w) (h1 : r * w ≤ fed) : spF w fed r = r + 1 := by unfold spF; rw [if_pos (by omega)]
/-- how what was fed lies in runs of w -/
def AI (w S fed r : Nat) : Prop := r * w ≤ fed ∧ fed ≤ r * w + w ∧ fed ≤ S * w + w
theorem AI.step {w S fed r : Nat} (h : AI w S fed r) (hw : 0 < w) (hf : fed < S * w + w) : AI w S (fed + 1) (spF w fed r) := by
  obtain ⟨h1, h2, h3⟩ := h
  unfold spF
  split
  · rename_i q
    have h4 : (r + 1) * w = r * w + w := Nat.succ_mul _ _
    exact ⟨by omega, by omega, by omega⟩
  · exact ⟨by omega, by omega, by omega⟩
theorem AI.fm {w S fed r : Nat} (h : AI w S fed r) (hw : 0 < w) : ∀ k, fed + k ≤ S * w + w → AI w S (fed + k) (fmR w fed r k) := by
  intro k
  induction k with
  | zero => intro _; exact h
  | succ k ih => intro hk; exact (ih (by omega)).step hw (by omega)
theorem AI.r_le {w S fed r : Nat} (h : AI w S fed r) (hw : 0 < w) : r ≤ fed := by
  have h1 : r * 1 ≤ r * w := Nat.mul_le_mul_left r hw
  have := h.1
  omega
def gLe (V : Nat → Int32) (od : Nat → Nat) (c0 : Nat) (l0 : Int32) : Nat → Int32
  | 0 => l0
  | i + 1 => gMin V od c0 (i + 1)
def gGr (V : Nat → Int32) (od : Nat → Nat) (c0 : Nat) (l0 : Int32) : Nat → Int32
  | 0 => l0
  | i + 1 => gMax V od c0 (i + 1)
section GL
variable {V : Nat → Int32} {od : Nat → Nat} {c0 : Nat} {l0 : Int32} {i : Nat}
theorem gle_a (hi : i < 2 ^ 31) (h : nI i = 0) : V (od (c0 + i)) = gLe V od c0 l0 (i + 1) := by
  have h1 := (nI_eq0 hi).mp h
  subst h1
  show V (od (c0 + 0)) = if V (od (c0 + 0)) < V (od c0) then V (od (c0 + 0)) else V (od c0)
  split <;> rfl
theorem gle_b (h : ¬ nI i = 0) (h2 : ¬ gLe V od c0 l0 i ≤ V (od (c0 + i))) : V (od (c0 + i)) = gLe V od c0 l0 (i + 1) := by
  cases i with
  | zero => exact absurd rfl h
  | succ i =>
    show V (od (c0 + (i + 1))) = if V (od (c0 + (i + 1))) < gMin V od c0 (i + 1) then V (od (c0 + (i + 1))) else gMin V od c0 (i + 1)
    rw [if_pos (show V (od (c0 + (i + 1))) < gMin V od c0 (i + 1) from Int32.not_le.mp h2)]
theorem gle_c (h : ¬ nI i = 0) (h2 : gLe V od c0 l0 i ≤ V (od (c0 + i))) : gLe V od c0 l0 i = gLe V od c0 l0 (i + 1) := by
  cases i with
  | zero => exact absurd rfl h
  | succ i =>
    show gMin V od c0 (i + 1) = if V (od (c0 + (i + 1))) < gMin V od c0 (i + 1) then V (od (c0 + (i + 1))) else gMin V od c0 (i + 1)
    rw [if_neg (show ¬ V (od (c0 + (i + 1))) < gMin V od c0 (i + 1) from Int32.not_lt.mpr h2)]
theorem ggr_a (hi : i < 2 ^ 31) (h : nI i = 0) : V (od (c0 + i)) = gGr V od c0 l0 (i + 1) := by
  have h1 := (nI_eq0 hi).mp h
  subst h1
  show V (od (c0 + 0)) = if V (od c0) < V (od (c0 + 0)) then V (od (c0 + 0)) else V (od c0)
  split <;> rfl
theorem ggr_b (h : ¬ nI i = 0) (h2 : ¬ V (od (c0 + i)) ≤ gGr V od c0 l0 i) : V (od (c0 + i)) = gGr V od c0 l0 (i + 1) := by
  cases i with
  | zero => exact absurd rfl h
  | succ i =>
    show V (od (c0 + (i + 1))) = if gMax V od c0 (i + 1) < V (od (c0 + (i + 1))) then V (od (c0 + (i + 1))) else gMax V od c0 (i + 1)
    rw [if_pos (show gMax V od c0 (i + 1) < V (od (c0 + (i + 1))) from Int32.not_le.mp h2)]
theorem ggr_c (h : ¬ nI i = 0) (h2 : V (od (c0 + i)) ≤ gGr V od c0 l0 i) : gGr V od c0 l0 i = gGr V od c0 l0 (i + 1) := by
  cases i with
  | zero => exact absurd rfl h
  | succ i =>
    show gMax V od c0 (i + 1) = if gMax V od c0 (i + 1) < V (od (c0 + (i + 1))) then V (od (c0 + (i + 1))) else gMax V od c0 (i + 1)
    rw [if_neg (show ¬ gMax V od c0 (i + 1) < V (od (c0 + (i + 1))) from Int32.not_lt.mpr h2)]
theorem gle_pos (h : 0 < i) : gLe V od c0 l0 i = gMin V od c0 i ∧ gGr V od c0 l0 i = gMax V od c0 i := by
  cases i with
  | zero => omega
  | succ i => exact ⟨rfl, rfl⟩
end GL
/-- the first k entries are put to false -/
def clr (lf : Nat → Bool) (k : Nat) : Nat → Bool := fun j => if j < k then false else lf j
theorem clr_0 (lf : Nat → Bool) : clr lf 0 = lf := by funext j; unfold clr; rw [if_neg (by omega)]
theorem clr_s (lf : Nat → Bool) (k : Nat) : upd (bA (clr lf k)) k (bI false) = bA (clr lf (k + 1)) := by
  rw [upd_bA]
  congr 1
  funext j
  simp only [va_up, clr]
  by_cases h : j = k
  · rw [if_pos h, if_pos (by omega)]
  · rw [if_neg h]
    by_cases h2 : j < k
    · rw [if_pos h2, if_pos (by omega)]
    · rw [if_neg h2, if_neg (by omega)]
section EM1
variable {l : Launch} {D : va_G} {cI cZ cJ : ClassId} {q : Nat → Nat} {w S r wl : Nat} {K V : Nat → Int32} {ord : Nat → Nat} {lf : Nat → Bool} {thrown : Int32} {fed : Nat} {reading : Bool} {gone : Nat} {current key value many sum least most : Int32} {sz : Nat}
set_option maxHeartbeats 4000000 in
set_option maxRecDepth 100000 in
theorem c_EM_thrown  : MetI l y_EM_thrown b_EM_thrown 1 (some .int) (rmF 0 0) D (tyL cI cZ cJ) [.ref (q 0)] (emW cI cZ q K V ord lf thrown w (S * w + w) fed r (fed - r * w) reading gone current key value many sum least most) sz (fun res (_ : Unit) => res = thrown) (fun _ => emW cI cZ q K V ord lf thrown w (S * w + w) fed r (fed - r * w) reading gone current key value many sum least most) := by
  refine MetI.of (by decide) (Nat.le_of_ble_eq_true rfl) ?_
  intro p e s m below meth c A ls C hnm hA hw hl
  have hx := C.1.1
  have hb := C.1.2.1
  have hl : lv_has ls 1 [(0, .ref (q 0))] := hl
  refine lv_aload_n hx hb d_EM_thrown_0 rfl (lv_at hl 0 rfl) ?_
  refine em_get C hw rfl lk_EM_0 rfl d_EM_thrown_1 ?_
  exact zr_iret C () (rfl) hw d_EM_thrown_4
set_option maxHeartbeats 4000000 in
set_option maxRecDepth 100000 in
theorem c_EM_reset  : MetV l y_EM_reset b_EM_reset 1 (rmF 0 0) D (tyL cI cZ cJ) [.ref (q 0)] (emW cI cZ q K V ord lf thrown w (S * w + w) fed r (fed - r * w) reading gone current key value many sum least most) sz (fun (_ : Unit) => True) (fun _ => emW cI cZ q K V ord lf 0 w (S * w + w) 0 0 0 false 0 0 key value many sum least most) := by
  refine MetV.of (by decide) (Nat.le_of_ble_eq_true rfl) ?_
  intro p e s m below meth c A ls C hnm hA hw hl
  have hx := C.1.1
  have hb := C.1.2.1
  have hl : lv_has ls 1 [(0, .ref (q 0))] := hl
  refine lv_aload_n hx hb d_EM_reset_0 rfl (lv_at hl 0 rfl) ?_
  refine lv_iconst (v := 0) hx hb d_EM_reset_1 (by decide) ?_
  refine em_put C hw rfl lk_EM_0 rfl rfl rfl (Nat.le_of_ble_eq_true rfl) (W1 := emW cI cZ q K V ord lf 0 w (S * w + w) fed r (fed - r * w) reading gone current key value many sum least most) rfl d_EM_reset_2 (fun H locs hw => ?_)
  refine lv_aload_n hx hb d_EM_reset_5 rfl (lv_at hl 0 rfl) ?_
  refine lv_iconst (v := nI 0) hx hb d_EM_reset_6 (by decide) ?_
  refine em_put C hw rfl lk_EM_3 rfl rfl rfl (Nat.le_of_ble_eq_true rfl) (W1 := emW cI cZ q K V ord lf 0 w (S * w + w) 0 r (fed - r * w) reading gone current key value many sum least most) rfl d_EM_reset_7 (fun H locs hw => ?_)
  refine lv_aload_n hx hb d_EM_reset_10 rfl (lv_at hl 0 rfl) ?_
  refine lv_iconst (v := nI 0) hx hb d_EM_reset_11 (by decide) ?_
  refine em_put C hw rfl lk_EM_4 rfl rfl rfl (Nat.le_of_ble_eq_true rfl) (W1 := emW cI cZ q K V ord lf 0 w (S * w + w) 0 0 (fed - r * w) reading gone current key value many sum least most) rfl d_EM_reset_12 (fun H locs hw => ?_)
  refine lv_aload_n hx hb d_EM_reset_15 rfl (lv_at hl 0 rfl) ?_
  refine lv_iconst (v := nI 0) hx hb d_EM_reset_16 (by decide) ?_
  refine em_put C hw rfl lk_EM_5 rfl rfl rfl (Nat.le_of_ble_eq_true rfl) (W1 := emW cI cZ q K V ord lf 0 w (S * w + w) 0 0 0 reading gone current key value many sum least most) rfl d_EM_reset_17 (fun H locs hw => ?_)
  refine lv_aload_n hx hb d_EM_reset_20 rfl (lv_at hl 0 rfl) ?_
  refine lv_iconst (v := bI false) hx hb d_EM_reset_21 (by decide) ?_
  refine em_put C hw rfl lk_EM_6 rfl (bI_nar _) (bI_fit _) (Nat.le_of_ble_eq_true rfl) (W1 := emW cI cZ q K V ord lf 0 w (S * w + w) 0 0 0 false gone current key value many sum least most) rfl d_EM_reset_22 (fun H locs hw => ?_)
  refine lv_aload_n hx hb d_EM_reset_25 rfl (lv_at hl 0 rfl) ?_
  refine lv_iconst (v := nI 0) hx hb d_EM_reset_26 (by decide) ?_
  refine em_put C hw rfl lk_EM_7 rfl rfl rfl (Nat.le_of_ble_eq_true rfl) (W1 := emW cI cZ q K V ord lf 0 w (S * w + w) 0 0 0 false 0 current key value many sum least most) rfl d_EM_reset_27 (fun H locs hw => ?_)
  refine lv_aload_n hx hb d_EM_reset_30 rfl (lv_at hl 0 rfl) ?_
  refine lv_iconst (v := 0) hx hb d_EM_reset_31 (by decide) ?_
  refine em_put C hw rfl lk_EM_8 rfl rfl rfl (Nat.le_of_ble_eq_true rfl) (W1 := emW cI cZ q K V ord lf 0 w (S * w + w) 0 0 0 false 0 0 key value many sum least most) rfl d_EM_reset_32 (fun H locs hw => ?_)
  exact zr_vret C () trivial hw d_EM_reset_35
set_option maxHeartbeats 4000000 in
set_option maxRecDepth 100000 in
theorem c_EM_key  : MetI l y_EM_key b_EM_key 1 (some .int) (rmF 0 0) D (tyL cI cZ cJ) [.ref (q 0)] (emW cI cZ q K V ord lf thrown w (S * w + w) fed r (fed - r * w) reading gone current key value many sum least most) sz (fun res (_ : Unit) => res = if current = 0 then 0 else key) (fun _ => emW cI cZ q K V ord lf 0 w (S * w + w) fed r (fed - r * w) reading gone current key value many sum least most) := by
  refine MetI.of (by decide) (Nat.le_of_ble_eq_true rfl) ?_
  intro p e s m below meth c A ls C hnm hA hw hl
  have hx := C.1.1
  have hb := C.1.2.1
  have hl : lv_has ls 1 [(0, .ref (q 0))] := hl
  refine lv_aload_n hx hb d_EM_key_0 rfl (lv_at hl 0 rfl) ?_
  refine lv_iconst (v := 0) hx hb d_EM_key_1 (by decide) ?_
  refine em_put C hw rfl lk_EM_0 rfl rfl rfl (Nat.le_of_ble_eq_true rfl) (W1 := emW cI cZ q K V ord lf 0 w (S * w + w) fed r (fed - r * w) reading gone current key value many sum least most) rfl d_EM_key_2 (fun H locs hw => ?_)
  refine lv_aload_n hx hb d_EM_key_5 rfl (lv_at hl 0 rfl) ?_
  refine em_get C hw rfl lk_EM_8 rfl d_EM_key_6 ?_
  refine lv_if_ne (tgt := 16) hx hb d_EM_key_9 (by decide) (fun h9 => ?_) (fun h9 => ?_)
  · refine lv_aload_n hx hb d_EM_key_16 rfl (lv_at hl 0 rfl) ?_
    refine em_get C hw rfl lk_EM_9 rfl d_EM_key_17 ?_
    exact zr_iret C () (by first | (rw [if_pos h9]; done) | (rw [if_neg h9]; done)) hw d_EM_key_20
  · refine lv_iconst (v := 0) hx hb d_EM_key_12 (by decide) ?_
    refine lv_goto (tgt := 20) hx hb d_EM_key_13 (by decide) ?_
    exact zr_iret C () (by first | (rw [if_pos h9]; done) | (rw [if_neg h9]; done)) hw d_EM_key_20
set_option maxHeartbeats 4000000 in
set_option maxRecDepth 100000 in
theorem c_EM_value  : MetI l y_EM_value b_EM_value 1 (some .int) (rmF 0 0) D (tyL cI cZ cJ) [.ref (q 0)] (emW cI cZ q K V ord lf thrown w (S * w + w) fed r (fed - r * w) reading gone current key value many sum least most) sz (fun res (_ : Unit) => res = if current = 1 then value else 0) (fun _ => emW cI cZ q K V ord lf 0 w (S * w + w) fed r (fed - r * w) reading gone current key value many sum least most) := by
  refine MetI.of (by decide) (Nat.le_of_ble_eq_true rfl) ?_
  intro p e s m below meth c A ls C hnm hA hw hl
  have hx := C.1.1
  have hb := C.1.2.1
  have hl : lv_has ls 1 [(0, .ref (q 0))] := hl
  refine lv_aload_n hx hb d_EM_value_0 rfl (lv_at hl 0 rfl) ?_
  refine lv_iconst (v := 0) hx hb d_EM_value_1 (by decide) ?_
  refine em_put C hw rfl lk_EM_0 rfl rfl rfl (Nat.le_of_ble_eq_true rfl) (W1 := emW cI cZ q K V ord lf 0 w (S * w + w) fed r (fed - r * w) reading gone current key value many sum least most) rfl d_EM_value_2 (fun H locs hw => ?_)
  refine lv_aload_n hx hb d_EM_value_5 rfl (lv_at hl 0 rfl) ?_
  refine em_get C hw rfl lk_EM_8 rfl d_EM_value_6 ?_
  refine lv_iconst (v := 1) hx hb d_EM_value_9 (by decide) ?_
  refine lv_icmp_ne (tgt := 20) hx hb d_EM_value_10 (by decide) (fun h10 => ?_) (fun h10 => ?_)
  · refine lv_iconst (v := 0) hx hb d_EM_value_20 (by decide) ?_
    exact zr_iret C () (by first | (rw [if_pos h10]; done) | (rw [if_neg h10]; done)) hw d_EM_value_21
  · refine lv_aload_n hx hb d_EM_value_13 rfl (lv_at hl 0 rfl) ?_
    refine em_get C hw rfl lk_EM_10 rfl d_EM_value_14 ?_
    refine lv_goto (tgt := 21) hx hb d_EM_value_17 (by decide) ?_
    exact zr_iret C () (by first | (rw [if_pos h10]; done) | (rw [if_neg h10]; done)) hw d_EM_value_21
set_option maxHeartbeats 4000000 in
set_option maxRecDepth 100000 in
theorem c_EM_group {n : Nat} (hn : n ≤ 3) : MetI l y_EM_group b_EM_group 2 (some .int) (rmF 0 0) D (tyL cI cZ cJ) [.ref (q 0), .int (nI n)] (emW cI cZ q K V ord lf thrown w (S * w + w) fed r (fed - r * w) reading gone current key value many sum least most) sz (fun res (_ : Unit) => res = grpR current many sum least most n) (fun _ => emW cI cZ q K V ord lf 0 w (S * w + w) fed r (fed - r * w) reading gone current key value many sum least most) := by
  refine MetI.of (by decide) (Nat.le_of_ble_eq_true rfl) ?_
  intro p e s m below meth c A ls C hnm hA hw hl
  have hx := C.1.1
  have hb := C.1.2.1
  have hl : lv_has ls 2 [(0, .ref (q 0)), (1, .int (nI n))] := hl
  refine lv_aload_n hx hb d_EM_group_0 rfl (lv_at hl 0 rfl) ?_
  refine lv_iload_n hx hb d_EM_group_1 rfl (lv_at hl 1 rfl) ?_
  refine lv_if_lt (tgt := 10) hx hb d_EM_group_2 (by decide) (fun h2 => ?_) (fun h2 => ?_)
  · exact absurd h2 (nI_pos (by omega))
  · refine lv_iload_n hx hb d_EM_group_5 rfl (lv_at hl 1 rfl) ?_
    refine lv_iconst (v := nI 3) hx hb d_EM_group_6 (by decide) ?_
    refine lv_icmp_le (tgt := 14) hx hb d_EM_group_7 (by decide) (fun h7 => ?_) (fun h7 => ?_)
    · refine lv_iconst (v := 0) hx hb d_EM_group_14 (by decide) ?_
      refine em_put C hw rfl lk_EM_0 rfl rfl rfl (Nat.le_of_ble_eq_true rfl) (W1 := emW cI cZ q K V ord lf 0 w (S * w + w) fed r (fed - r * w) reading gone current key value many sum least most) rfl d_EM_group_15 (fun H locs hw => ?_)
      refine lv_aload_n hx hb d_EM_group_18 rfl (lv_at hl 0 rfl) ?_
      refine em_get C hw rfl lk_EM_0 rfl d_EM_group_19 ?_
      refine lv_if_gt (tgt := 33) hx hb d_EM_group_22 (by decide) (fun h22 => ?_) (fun h22 => ?_)
      · exact absurd h22 (by decide)
      · refine lv_aload_n hx hb d_EM_group_25 rfl (lv_at hl 0 rfl) ?_
        refine em_get C hw rfl lk_EM_8 rfl d_EM_group_26 ?_
        refine lv_iconst (v := 2) hx hb d_EM_group_29 (by decide) ?_
        refine lv_icmp_eq (tgt := 35) hx hb d_EM_group_30 (by decide) (fun h30 => ?_) (fun h30 => ?_)
        · refine lv_iload_n hx hb d_EM_group_35 rfl (lv_at hl 1 rfl) ?_
          refine lv_if_ne (tgt := 46) hx hb d_EM_group_36 (by decide) (fun h36 => ?_) (fun h36 => ?_)
          · have h36 : ¬ n = 0 := fun z => h36 ((nI_eq0 (by omega)).mpr z)
            refine lv_iload_n hx hb d_EM_group_46 rfl (lv_at hl 1 rfl) ?_
            refine lv_iconst (v := nI 1) hx hb d_EM_group_47 (by decide) ?_
            refine zr_cne hx hb (by omega) (by omega) (tgt := 58) d_EM_group_48 (by decide) (fun h48 => ?_) (fun h48 => ?_)
            · refine lv_iload_n hx hb d_EM_group_58 rfl (lv_at hl 1 rfl) ?_
              refine lv_iconst (v := nI 2) hx hb d_EM_group_59 (by decide) ?_
              refine zr_cne hx hb (by omega) (by omega) (tgt := 70) d_EM_group_60 (by decide) (fun h60 => ?_) (fun h60 => ?_)
              · refine lv_aload_n hx hb d_EM_group_70 rfl (lv_at hl 0 rfl) ?_
                refine em_get C hw rfl lk_EM_14 rfl d_EM_group_71 ?_
                exact zr_iret C () (by unfold grpR; first | (rw [if_neg h30]; done) | (rw [if_pos h30, if_pos h36]; done) | (rw [if_pos h30, if_neg h36, if_pos h48]; done) | (rw [if_pos h30, if_neg h36, if_neg h48, if_pos h60]; done) | (rw [if_pos h30, if_neg h36, if_neg h48, if_neg h60]; done)) hw d_EM_group_74
              · refine lv_aload_n hx hb d_EM_group_63 rfl (lv_at hl 0 rfl) ?_
                refine em_get C hw rfl lk_EM_13 rfl d_EM_group_64 ?_
                refine lv_goto (tgt := 74) hx hb d_EM_group_67 (by decide) ?_
                exact zr_iret C () (by unfold grpR; first | (rw [if_neg h30]; done) | (rw [if_pos h30, if_pos h36]; done) | (rw [if_pos h30, if_neg h36, if_pos h48]; done) | (rw [if_pos h30, if_neg h36, if_neg h48, if_pos h60]; done) | (rw [if_pos h30, if_neg h36, if_neg h48, if_neg h60]; done)) hw d_EM_group_74
            · refine lv_aload_n hx hb d_EM_group_51 rfl (lv_at hl 0 rfl) ?_
              refine em_get C hw rfl lk_EM_12 rfl d_EM_group_52 ?_
              refine lv_goto (tgt := 74) hx hb d_EM_group_55 (by decide) ?_
              exact zr_iret C () (by unfold grpR; first | (rw [if_neg h30]; done) | (rw [if_pos h30, if_pos h36]; done) | (rw [if_pos h30, if_neg h36, if_pos h48]; done) | (rw [if_pos h30, if_neg h36, if_neg h48, if_pos h60]; done) | (rw [if_pos h30, if_neg h36, if_neg h48, if_neg h60]; done)) hw d_EM_group_74
          · have h36 : n = 0 := (nI_eq0 (by omega)).mp h36
            refine lv_aload_n hx hb d_EM_group_39 rfl (lv_at hl 0 rfl) ?_
            refine em_get C hw rfl lk_EM_11 rfl d_EM_group_40 ?_
            refine lv_goto (tgt := 74) hx hb d_EM_group_43 (by decide) ?_
            exact zr_iret C () (by unfold grpR; first | (rw [if_neg h30]; done) | (rw [if_pos h30, if_pos h36]; done) | (rw [if_pos h30, if_neg h36, if_pos h48]; done) | (rw [if_pos h30, if_neg h36, if_neg h48, if_pos h60]; done) | (rw [if_pos h30, if_neg h36, if_neg h48, if_neg h60]; done)) hw d_EM_group_74
        · refine lv_iconst (v := 0) hx hb d_EM_group_33 (by decide) ?_
          exact zr_iret C () (by unfold grpR; first | (rw [if_neg h30]; done) | (rw [if_pos h30, if_pos h36]; done) | (rw [if_pos h30, if_neg h36, if_pos h48]; done) | (rw [if_pos h30, if_neg h36, if_neg h48, if_pos h60]; done) | (rw [if_pos h30, if_neg h36, if_neg h48, if_neg h60]; done)) hw d_EM_group_34
    · exact absurd (nI_le (by omega) (by omega)) h7
set_option maxHeartbeats 4000000 in
set_option maxRecDepth 100000 in
theorem c_EM_group_t {n4 : Int32} (hn : n4 < 0 ∨ 3 < n4) : MetI l y_EM_group b_EM_group 2 (some .int) (rmF 0 0) D (tyL cI cZ cJ) [.ref (q 0), .int n4] (emW cI cZ q K V ord lf thrown w (S * w + w) fed r (fed - r * w) reading gone current key value many sum least most) sz (fun res (_ : Unit) => res = 0) (fun _ => emW cI cZ q K V ord lf 1 w (S * w + w) fed r (fed - r * w) reading gone current key value many sum least most) := by
  refine MetI.of (by decide) (Nat.le_of_ble_eq_true rfl) ?_
  intro p e s m below meth c A ls C hnm hA hw hl
  have hx := C.1.1
  have hb := C.1.2.1
  have hl : lv_has ls 2 [(0, .ref (q 0)), (1, .int n4)] := hl
  refine lv_aload_n hx hb d_EM_group_0 rfl (lv_at hl 0 rfl) ?_
  refine lv_iload_n hx hb d_EM_group_1 rfl (lv_at hl 1 rfl) ?_
  refine lv_if_lt (tgt := 10) hx hb d_EM_group_2 (by decide) (fun h2 => ?_) (fun h2 => ?_)
  · refine lv_iconst (v := 1) hx hb d_EM_group_10 (by decide) ?_
    refine lv_goto (tgt := 15) hx hb d_EM_group_11 (by decide) ?_
    refine em_put C hw rfl lk_EM_0 rfl rfl rfl (Nat.le_of_ble_eq_true rfl) (W1 := emW cI cZ q K V ord lf 1 w (S * w + w) fed r (fed - r * w) reading gone current key value many sum least most) rfl d_EM_group_15 (fun H locs hw => ?_)
    refine lv_aload_n hx hb d_EM_group_18 rfl (lv_at hl 0 rfl) ?_
    refine em_get C hw rfl lk_EM_0 rfl d_EM_group_19 ?_
    refine lv_if_gt (tgt := 33) hx hb d_EM_group_22 (by decide) (fun h22 => ?_) (fun h22 => ?_)
    · refine lv_iconst (v := 0) hx hb d_EM_group_33 (by decide) ?_
      exact zr_iret C () (rfl) hw d_EM_group_34
    · exact absurd (by decide) h22
  · refine lv_iload_n hx hb d_EM_group_5 rfl (lv_at hl 1 rfl) ?_
    refine lv_iconst (v := 3) hx hb d_EM_group_6 (by decide) ?_
    refine lv_icmp_le (tgt := 14) hx hb d_EM_group_7 (by decide) (fun h7 => ?_) (fun h7 => ?_)
    · exact absurd hn (fun z => z.elim h2 (Int32.not_lt.mpr h7))
    · refine lv_iconst (v := 1) hx hb d_EM_group_10 (by decide) ?_
      refine lv_goto (tgt := 15) hx hb d_EM_group_11 (by decide) ?_
      refine em_put C hw rfl lk_EM_0 rfl rfl rfl (Nat.le_of_ble_eq_true rfl) (W1 := emW cI cZ q K V ord lf 1 w (S * w + w) fed r (fed - r * w) reading gone current key value many sum least most) rfl d_EM_group_15 (fun H locs hw => ?_)
      refine lv_aload_n hx hb d_EM_group_18 rfl (lv_at hl 0 rfl) ?_
      refine em_get C hw rfl lk_EM_0 rfl d_EM_group_19 ?_
      refine lv_if_gt (tgt := 33) hx hb d_EM_group_22 (by decide) (fun h22 => ?_) (fun h22 => ?_)
      · refine lv_iconst (v := 0) hx hb d_EM_group_33 (by decide) ?_
        exact zr_iret C () (rfl) hw d_EM_group_34
      · exact absurd (by decide) h22
set_option maxHeartbeats 4000000 in
set_option maxRecDepth 100000 in
theorem c_EM_take (hG : Geo w S wl) {kx vy : Int32} (hai : AI w S fed r) (hf : fed < S * w + w) : MetV l y_EM_take b_EM_take 3 (rmF 0 0) D (tyL cI cZ cJ) [.ref (q 0), .int kx, .int vy] (emW cI cZ q K V ord lf thrown w (S * w + w) fed r (fed - r * w) reading gone current key value many sum least most) sz (fun (_ : Unit) => True) (fun _ => emW cI cZ q (upd K fed kx) (upd V fed vy) ord lf thrown w (S * w + w) (fed + 1) (spF w fed r) (fed + 1 - spF w fed r * w) reading gone current key value many sum least most) := by
  obtain ⟨hw0, hwb, hS, hS2, -⟩ := hG
  refine MetV.of (by decide) (Nat.le_of_ble_eq_true rfl) ?_
  intro p e s m below meth c A ls C hnm hA hw hl
  have hx := C.1.1
  have hb := C.1.2.1
  have hl : lv_has ls 3 [(0, .ref (q 0)), (1, .int kx), (2, .int vy)] := hl
  obtain ⟨hai1, hai2, hai3⟩ := id hai
  refine lv_aload_n hx hb d_EM_take_0 rfl (lv_at hl 0 rfl) ?_
  refine em_get C hw rfl lk_EM_5 rfl d_EM_take_1 ?_
  refine lv_aload_n hx hb d_EM_take_4 rfl (lv_at hl 0 rfl) ?_
  refine em_get C hw rfl lk_EM_1 rfl d_EM_take_5 ?_
  refine zr_cne hx hb (by omega) (by omega) (tgt := 26) d_EM_take_8 (by decide) (fun h8 => ?_) (fun h8 => ?_)
  · refine lv_aload_n hx hb d_EM_take_26 rfl (lv_at hl 0 rfl) ?_
    refine em_get C hw rfl lk_EM_15 rfl d_EM_take_27 ?_
    refine lv_aload_n hx hb d_EM_take_30 rfl (lv_at hl 0 rfl) ?_
    refine em_get C hw rfl lk_EM_3 rfl d_EM_take_31 ?_
    refine lv_iload_n hx hb d_EM_take_34 rfl (lv_at hl 1 rfl) ?_
    refine zr_ast C hw 1 0 rfl rfl (by omega) (by omega) rfl (W1 := emW cI cZ q (upd K fed kx) V ord lf thrown w (S * w + w) fed r (fed - r * w) reading gone current key value many sum least most) rfl d_EM_take_35 (fun H locs hw => ?_)
    refine lv_aload_n hx hb d_EM_take_36 rfl (lv_at hl 0 rfl) ?_
    refine em_get C hw rfl lk_EM_16 rfl d_EM_take_37 ?_
    refine lv_aload_n hx hb d_EM_take_40 rfl (lv_at hl 0 rfl) ?_
    refine em_get C hw rfl lk_EM_3 rfl d_EM_take_41 ?_
    refine lv_iload_n hx hb d_EM_take_44 rfl (lv_at hl 2 rfl) ?_
    refine zr_ast C hw 2 0 rfl rfl (by omega) (by omega) rfl (W1 := emW cI cZ q (upd K fed kx) (upd V fed vy) ord lf thrown w (S * w + w) fed r (fed - r * w) reading gone current key value many sum least most) rfl d_EM_take_45 (fun H locs hw => ?_)
    refine lv_aload_n hx hb d_EM_take_46 rfl (lv_at hl 0 rfl) ?_
    refine lv_dup hx hb d_EM_take_47 rfl ?_
    refine em_get C hw rfl lk_EM_3 rfl d_EM_take_48 ?_
    refine lv_iconst (v := nI 1) hx hb d_EM_take_51 (by decide) ?_
    refine zr_add hx hb d_EM_take_52 ?_
    refine em_put C hw rfl lk_EM_3 rfl rfl rfl (Nat.le_of_ble_eq_true rfl) (W1 := emW cI cZ q (upd K fed kx) (upd V fed vy) ord lf thrown w (S * w + w) (fed + 1) r (fed - r * w) reading gone current key value many sum least most) rfl d_EM_take_53 (fun H locs hw => ?_)
    refine lv_aload_n hx hb d_EM_take_56 rfl (lv_at hl 0 rfl) ?_
    refine lv_dup hx hb d_EM_take_57 rfl ?_
    refine em_get C hw rfl lk_EM_5 rfl d_EM_take_58 ?_
    refine lv_iconst (v := nI 1) hx hb d_EM_take_61 (by decide) ?_
    refine zr_add hx hb d_EM_take_62 ?_
    refine em_put C hw rfl lk_EM_5 rfl rfl rfl (Nat.le_of_ble_eq_true rfl) (W1 := emW cI cZ q (upd K fed kx) (upd V fed vy) ord lf thrown w (S * w + w) (fed + 1) r ((fed - r * w) + 1) reading gone current key value many sum least most) rfl d_EM_take_63 (fun H locs hw => ?_)
    have hw : Wd D (tyL cI cZ cJ) A s H locs (emW cI cZ q (upd K fed kx) (upd V fed vy) ord lf thrown w (S * w + w) (fed + 1) (spF w fed r) (fed + 1 - spF w fed r * w) reading gone current key value many sum least most) := by
      first
      | (rw [spF_n h8 hai.1, show fed + 1 - r * w = fed - r * w + 1 by omega]; exact hw)
      | (rw [spF_y h8 hai.1, show fed + 1 - (r + 1) * w = 0 + 1 by rw [Nat.succ_mul]; omega]; exact hw)
    exact zr_vret C () trivial hw d_EM_take_66
  · refine lv_aload_n hx hb d_EM_take_11 rfl (lv_at hl 0 rfl) ?_
    refine lv_dup hx hb d_EM_take_12 rfl ?_
    refine em_get C hw rfl lk_EM_4 rfl d_EM_take_13 ?_
    refine lv_iconst (v := nI 1) hx hb d_EM_take_16 (by decide) ?_
    refine zr_add hx hb d_EM_take_17 ?_
    refine em_put C hw rfl lk_EM_4 rfl rfl rfl (Nat.le_of_ble_eq_true rfl) (W1 := emW cI cZ q K V ord lf thrown w (S * w + w) fed (r + 1) (fed - r * w) reading gone current key value many sum least most) rfl d_EM_take_18 (fun H locs hw => ?_)
    refine lv_aload_n hx hb d_EM_take_21 rfl (lv_at hl 0 rfl) ?_
    refine lv_iconst (v := nI 0) hx hb d_EM_take_22 (by decide) ?_
    refine em_put C hw rfl lk_EM_5 rfl rfl rfl (Nat.le_of_ble_eq_true rfl) (W1 := emW cI cZ q K V ord lf thrown w (S * w + w) fed (r + 1) 0 reading gone current key value many sum least most) rfl d_EM_take_23 (fun H locs hw => ?_)
    refine lv_aload_n hx hb d_EM_take_26 rfl (lv_at hl 0 rfl) ?_
    refine em_get C hw rfl lk_EM_15 rfl d_EM_take_27 ?_
    refine lv_aload_n hx hb d_EM_take_30 rfl (lv_at hl 0 rfl) ?_
    refine em_get C hw rfl lk_EM_3 rfl d_EM_take_31 ?_
    refine lv_iload_n hx hb d_EM_take_34 rfl (lv_at hl 1 rfl) ?_
    refine zr_ast C hw 1 0 rfl rfl (by omega) (by omega) rfl (W1 := emW cI cZ q (upd K fed kx) V ord lf thrown w (S * w + w) fed (r + 1) 0 reading gone current key value many sum least most) rfl d_EM_take_35 (fun H locs hw => ?_)
    refine lv_aload_n hx hb d_EM_take_36 rfl (lv_at hl 0 rfl) ?_
    refine em_get C hw rfl lk_EM_16 rfl d_EM_take_37 ?_
    refine lv_aload_n hx hb d_EM_take_40 rfl (lv_at hl 0 rfl) ?_
    refine em_get C hw rfl lk_EM_3 rfl d_EM_take_41 ?_
    refine lv_iload_n hx hb d_EM_take_44 rfl (lv_at hl 2 rfl) ?_
    refine zr_ast C hw 2 0 rfl rfl (by omega) (by omega) rfl (W1 := emW cI cZ q (upd K fed kx) (upd V fed vy) ord lf thrown w (S * w + w) fed (r + 1) 0 reading gone current key value many sum least most) rfl d_EM_take_45 (fun H locs hw => ?_)
    refine lv_aload_n hx hb d_EM_take_46 rfl (lv_at hl 0 rfl) ?_
    refine lv_dup hx hb d_EM_take_47 rfl ?_
    refine em_get C hw rfl lk_EM_3 rfl d_EM_take_48 ?_
    refine lv_iconst (v := nI 1) hx hb d_EM_take_51 (by decide) ?_
    refine zr_add hx hb d_EM_take_52 ?_
    refine em_put C hw rfl lk_EM_3 rfl rfl rfl (Nat.le_of_ble_eq_true rfl) (W1 := emW cI cZ q (upd K fed kx) (upd V fed vy) ord lf thrown w (S * w + w) (fed + 1) (r + 1) 0 reading gone current key value many sum least most) rfl d_EM_take_53 (fun H locs hw => ?_)
    refine lv_aload_n hx hb d_EM_take_56 rfl (lv_at hl 0 rfl) ?_
    refine lv_dup hx hb d_EM_take_57 rfl ?_
    refine em_get C hw rfl lk_EM_5 rfl d_EM_take_58 ?_
    refine lv_iconst (v := nI 1) hx hb d_EM_take_61 (by decide) ?_
    refine zr_add hx hb d_EM_take_62 ?_
    refine em_put C hw rfl lk_EM_5 rfl rfl rfl (Nat.le_of_ble_eq_true rfl) (W1 := emW cI cZ q (upd K fed kx) (upd V fed vy) ord lf thrown w (S * w + w) (fed + 1) (r + 1) (0 + 1) reading gone current key value many sum least most) rfl d_EM_take_63 (fun H locs hw => ?_)
    have hw : Wd D (tyL cI cZ cJ) A s H locs (emW cI cZ q (upd K fed kx) (upd V fed vy) ord lf thrown w (S * w + w) (fed + 1) (spF w fed r) (fed + 1 - spF w fed r * w) reading gone current key value many sum least most) := by
      first
      | (rw [spF_n h8 hai.1, show fed + 1 - r * w = fed - r * w + 1 by omega]; exact hw)
      | (rw [spF_y h8 hai.1, show fed + 1 - (r + 1) * w = 0 + 1 by rw [Nat.succ_mul]; omega]; exact hw)
    exact zr_vret C () trivial hw d_EM_take_66
theorem h_EM_take : y_EM_take.cls ≠ "java/lang/invoke/MethodHandle" ∧ y_EM_take.cls ≠ "java/lang/invoke/VarHandle" ∧ (parseMethodDescriptor y_EM_take.desc).map (fun d => d.parameters.length) = some 2 := by decide +kernel
theorem g_EM_EM_take : GoodIn tb (wsV R_EM 52 y_EM_take.cls y_EM_take (wd y_EM_take b_EM_take 3 none)) := gd_V (by decide +kernel)
set_option maxHeartbeats 4000000 in
set_option maxRecDepth 100000 in
theorem c_EM_feed_s {kx vy : Int32} : MetI l y_EM_feed b_EM_feed 3 (some .int) (rmF 1 22) D (tyL cI cZ cJ) [.ref (q 0), .int kx, .int vy] (emW cI cZ q K V ord lf thrown w (S * w + w) fed r (fed - r * w) true gone current key value many sum least most) sz (fun res (_ : Unit) => res = -3) (fun _ => emW cI cZ q K V ord lf 0 w (S * w + w) fed r (fed - r * w) true gone current key value many sum least most) := by
  refine MetI.of (by decide) (Nat.le_of_ble_eq_true rfl) ?_
  intro p e s m below meth c A ls C hnm hA hw hl
  have hx := C.1.1
  have hb := C.1.2.1
  have hl : lv_has ls 3 [(0, .ref (q 0)), (1, .int kx), (2, .int vy)] := hl
  refine lv_aload_n hx hb d_EM_feed_0 rfl (lv_at hl 0 rfl) ?_
  refine lv_iconst (v := 0) hx hb d_EM_feed_1 (by decide) ?_
  refine em_put C hw rfl lk_EM_0 rfl rfl rfl (Nat.le_of_ble_eq_true rfl) (W1 := emW cI cZ q K V ord lf 0 w (S * w + w) fed r (fed - r * w) true gone current key value many sum least most) rfl d_EM_feed_2 (fun H locs hw => ?_)
  refine lv_aload_n hx hb d_EM_feed_5 rfl (lv_at hl 0 rfl) ?_
  refine em_get C hw rfl lk_EM_6 rfl d_EM_feed_6 ?_
  refine zr_beq hx hb (tgt := 15) d_EM_feed_9 (by decide) (fun h9 => ?_) (fun h9 => ?_)
  · exact absurd h9 (by decide)
  · refine lv_bipush (v := (-3)) hx hb d_EM_feed_12 (by decide) ?_
    exact zr_iret C () (rfl) hw d_EM_feed_14
set_option maxHeartbeats 4000000 in
set_option maxRecDepth 100000 in
theorem c_EM_feed_f (hG : Geo w S wl) {kx vy : Int32} : MetI l y_EM_feed b_EM_feed 3 (some .int) (rmF 1 22) D (tyL cI cZ cJ) [.ref (q 0), .int kx, .int vy] (emW cI cZ q K V ord lf thrown w (S * w + w) (S * w + w) r (S * w + w - r * w) false gone current key value many sum least most) sz (fun res (_ : Unit) => res = -2) (fun _ => emW cI cZ q K V ord lf 0 w (S * w + w) (S * w + w) r (S * w + w - r * w) false gone current key value many sum least most) := by
  obtain ⟨hw0, hwb, hS, hS2, -⟩ := hG
  refine MetI.of (by decide) (Nat.le_of_ble_eq_true rfl) ?_
  intro p e s m below meth c A ls C hnm hA hw hl
  have hx := C.1.1
  have hb := C.1.2.1
  have hl : lv_has ls 3 [(0, .ref (q 0)), (1, .int kx), (2, .int vy)] := hl
  refine lv_aload_n hx hb d_EM_feed_0 rfl (lv_at hl 0 rfl) ?_
  refine lv_iconst (v := 0) hx hb d_EM_feed_1 (by decide) ?_
  refine em_put C hw rfl lk_EM_0 rfl rfl rfl (Nat.le_of_ble_eq_true rfl) (W1 := emW cI cZ q K V ord lf 0 w (S * w + w) (S * w + w) r (S * w + w - r * w) false gone current key value many sum least most) rfl d_EM_feed_2 (fun H locs hw => ?_)
  refine lv_aload_n hx hb d_EM_feed_5 rfl (lv_at hl 0 rfl) ?_
  refine em_get C hw rfl lk_EM_6 rfl d_EM_feed_6 ?_
  refine zr_beq hx hb (tgt := 15) d_EM_feed_9 (by decide) (fun h9 => ?_) (fun h9 => ?_)
  · refine lv_aload_n hx hb d_EM_feed_15 rfl (lv_at hl 0 rfl) ?_
    refine em_get C hw rfl lk_EM_3 rfl d_EM_feed_16 ?_
    refine lv_aload_n hx hb d_EM_feed_19 rfl (lv_at hl 0 rfl) ?_
    refine em_get C hw rfl lk_EM_2 rfl d_EM_feed_20 ?_
    refine zr_cne hx hb (by omega) (by omega) (tgt := 29) d_EM_feed_23 (by decide) (fun h23 => ?_) (fun h23 => ?_)
    · exact absurd rfl h23
    · refine lv_bipush (v := (-2)) hx hb d_EM_feed_26 (by decide) ?_
      exact zr_iret C () (rfl) hw d_EM_feed_28
  · exact absurd h9 (by decide)
set_option maxHeartbeats 4000000 in
set_option maxRecDepth 100000 in
theorem c_EM_feed_a (hG : Geo w S wl) {kx vy : Int32} (hai : AI w S fed r) (hf : fed ≠ S * w + w) : MetI l y_EM_feed b_EM_feed 3 (some .int) (rmF 1 22) D (tyL cI cZ cJ) [.ref (q 0), .int kx, .int vy] (emW cI cZ q K V ord lf thrown w (S * w + w) fed r (fed - r * w) false gone current key value many sum least most) sz (fun res (_ : Unit) => res = 0) (fun _ => emW cI cZ q (upd K fed kx) (upd V fed vy) ord lf 0 w (S * w + w) (fed + 1) (spF w fed r) (fed + 1 - spF w fed r * w) false gone current key value many sum least most) := by
  have hG2 := hG
  obtain ⟨hw0, hwb, hS, hS2, -⟩ := hG
  refine MetI.of (by decide) (Nat.le_of_ble_eq_true rfl) ?_
  intro p e s m below meth c A ls C hnm hA hw hl
  have hx := C.1.1
  have hb := C.1.2.1
  have hl : lv_has ls 3 [(0, .ref (q 0)), (1, .int kx), (2, .int vy)] := hl
  obtain ⟨hai1, hai2, hai3⟩ := id hai
  refine lv_aload_n hx hb d_EM_feed_0 rfl (lv_at hl 0 rfl) ?_
  refine lv_iconst (v := 0) hx hb d_EM_feed_1 (by decide) ?_
  refine em_put C hw rfl lk_EM_0 rfl rfl rfl (Nat.le_of_ble_eq_true rfl) (W1 := emW cI cZ q K V ord lf 0 w (S * w + w) fed r (fed - r * w) false gone current key value many sum least most) rfl d_EM_feed_2 (fun H locs hw => ?_)
  refine lv_aload_n hx hb d_EM_feed_5 rfl (lv_at hl 0 rfl) ?_
  refine em_get C hw rfl lk_EM_6 rfl d_EM_feed_6 ?_
  refine zr_beq hx hb (tgt := 15) d_EM_feed_9 (by decide) (fun h9 => ?_) (fun h9 => ?_)
  · refine lv_aload_n hx hb d_EM_feed_15 rfl (lv_at hl 0 rfl) ?_
    refine em_get C hw rfl lk_EM_3 rfl d_EM_feed_16 ?_
    refine lv_aload_n hx hb d_EM_feed_19 rfl (lv_at hl 0 rfl) ?_
    refine em_get C hw rfl lk_EM_2 rfl d_EM_feed_20 ?_
    refine zr_cne hx hb (by omega) (by omega) (tgt := 29) d_EM_feed_23 (by decide) (fun h23 => ?_) (fun h23 => ?_)
    · refine lv_aload_n hx hb d_EM_feed_29 rfl (lv_at hl 0 rfl) ?_
      refine lv_iload_n hx hb d_EM_feed_30 rfl (lv_at hl 1 rfl) ?_
      refine lv_iload_n hx hb d_EM_feed_31 rfl (lv_at hl 2 rfl) ?_
      refine zr_callv0 (As := [.int kx, .int vy]) (rest := []) C hA hw hl.1 g_EM_EM_take (c_EM_take hG2 hai (by omega)) h_EM_take ⟨Nat.le_of_ble_eq_true rfl, Nat.le_of_ble_eq_true rfl⟩ rfl rfl rfl (Nat.le_of_ble_eq_true rfl) d_EM_feed_32 ⟨rfl, rfl⟩ ⟨Nat.zero_le _, Nat.zero_le _⟩ (fun u H locs hres hw => ?_)
      have hw : Wd D (tyL cI cZ cJ) A s H locs (emW cI cZ q (upd K fed kx) (upd V fed vy) ord lf 0 w (S * w + w) (fed + 1) (spF w fed r) (fed + 1 - spF w fed r * w) false gone current key value many sum least most) := hw
      refine lv_iconst (v := 0) hx hb d_EM_feed_35 (by decide) ?_
      exact zr_iret C () (rfl) hw d_EM_feed_36
    · exact absurd h23 hf
  · exact absurd h9 (by decide)
set_option maxHeartbeats 4000000 in
set_option maxRecDepth 100000 in
theorem c_EM_feedMany_t {kx stp vy n4 : Int32} (hn : n4 < 0 ∨ 200 < n4) : MetI l y_EM_feedMany b_EM_feedMany 6 (some .int) (rmF 1 22) D (tyL cI cZ cJ) [.ref (q 0), .int kx, .int stp, .int vy, .int n4] (emW cI cZ q K V ord lf thrown w (S * w + w) fed r (fed - r * w) reading gone current key value many sum least most) sz (fun res (_ : Unit) => res = 0) (fun _ => emW cI cZ q K V ord lf 1 w (S * w + w) fed r (fed - r * w) reading gone current key value many sum least most) := by
  refine MetI.of (by decide) (Nat.le_of_ble_eq_true rfl) ?_
  intro p e s m below meth c A ls C hnm hA hw hl
  have hx := C.1.1
  have hb := C.1.2.1
  have hl : lv_has ls 6 [(0, .ref (q 0)), (1, .int kx), (2, .int stp), (3, .int vy), (4, .int n4)] := hl
  refine lv_aload_n hx hb d_EM_feedMany_0 rfl (lv_at hl 0 rfl) ?_
  refine lv_iload hx hb d_EM_feedMany_1 (lv_at hl 4 rfl) ?_
  refine lv_if_lt (tgt := 14) hx hb d_EM_feedMany_3 (by decide) (fun h3 => ?_) (fun h3 => ?_)
  · refine lv_iconst (v := 1) hx hb d_EM_feedMany_14 (by decide) ?_
    refine lv_goto (tgt := 19) hx hb d_EM_feedMany_15 (by decide) ?_
    refine em_put C hw rfl lk_EM_0 rfl rfl rfl (Nat.le_of_ble_eq_true rfl) (W1 := emW cI cZ q K V ord lf 1 w (S * w + w) fed r (fed - r * w) reading gone current key value many sum least most) rfl d_EM_feedMany_19 (fun H locs hw => ?_)
    refine lv_aload_n hx hb d_EM_feedMany_22 rfl (lv_at hl 0 rfl) ?_
    refine em_get C hw rfl lk_EM_0 rfl d_EM_feedMany_23 ?_
    refine lv_if_le (tgt := 31) hx hb d_EM_feedMany_26 (by decide) (fun h26 => ?_) (fun h26 => ?_)
    · exact absurd h26 (by decide)
    · refine lv_iconst (v := 0) hx hb d_EM_feedMany_29 (by decide) ?_
      exact zr_iret C () (rfl) hw d_EM_feedMany_30
  · refine lv_iload hx hb d_EM_feedMany_6 (lv_at hl 4 rfl) ?_
    refine lv_sipush (v := 200) hx hb d_EM_feedMany_8 (by decide) ?_
    refine lv_icmp_le (tgt := 18) hx hb d_EM_feedMany_11 (by decide) (fun h11 => ?_) (fun h11 => ?_)
    · exact absurd hn (fun z => z.elim h3 (Int32.not_lt.mpr h11))
    · refine lv_iconst (v := 1) hx hb d_EM_feedMany_14 (by decide) ?_
      refine lv_goto (tgt := 19) hx hb d_EM_feedMany_15 (by decide) ?_
      refine em_put C hw rfl lk_EM_0 rfl rfl rfl (Nat.le_of_ble_eq_true rfl) (W1 := emW cI cZ q K V ord lf 1 w (S * w + w) fed r (fed - r * w) reading gone current key value many sum least most) rfl d_EM_feedMany_19 (fun H locs hw => ?_)
      refine lv_aload_n hx hb d_EM_feedMany_22 rfl (lv_at hl 0 rfl) ?_
      refine em_get C hw rfl lk_EM_0 rfl d_EM_feedMany_23 ?_
      refine lv_if_le (tgt := 31) hx hb d_EM_feedMany_26 (by decide) (fun h26 => ?_) (fun h26 => ?_)
      · exact absurd h26 (by decide)
      · refine lv_iconst (v := 0) hx hb d_EM_feedMany_29 (by decide) ?_
        exact zr_iret C () (rfl) hw d_EM_feedMany_30
set_option maxHeartbeats 4000000 in
set_option maxRecDepth 100000 in
theorem c_EM_feedMany_s {kx stp vy : Int32} {n : Nat} (hn : n ≤ 200) : MetI l y_EM_feedMany b_EM_feedMany 6 (some .int) (rmF 1 22) D (tyL cI cZ cJ) [.ref (q 0), .int kx, .int stp, .int vy, .int (nI n)] (emW cI cZ q K V ord lf thrown w (S * w + w) fed r (fed - r * w) true gone current key value many sum least most) sz (fun res (_ : Unit) => res = -3) (fun _ => emW cI cZ q K V ord lf 0 w (S * w + w) fed r (fed - r * w) true gone current key value many sum least most) := by
  refine MetI.of (by decide) (Nat.le_of_ble_eq_true rfl) ?_
  intro p e s m below meth c A ls C hnm hA hw hl
  have hx := C.1.1
  have hb := C.1.2.1
  have hl : lv_has ls 6 [(0, .ref (q 0)), (1, .int kx), (2, .int stp), (3, .int vy), (4, .int (nI n))] := hl
  refine lv_aload_n hx hb d_EM_feedMany_0 rfl (lv_at hl 0 rfl) ?_
  refine lv_iload hx hb d_EM_feedMany_1 (lv_at hl 4 rfl) ?_
  refine lv_if_lt (tgt := 14) hx hb d_EM_feedMany_3 (by decide) (fun h3 => ?_) (fun h3 => ?_)
  · exact absurd h3 (nI_pos (by omega))
  · refine lv_iload hx hb d_EM_feedMany_6 (lv_at hl 4 rfl) ?_
    refine lv_sipush (v := nI 200) hx hb d_EM_feedMany_8 (by decide) ?_
    refine lv_icmp_le (tgt := 18) hx hb d_EM_feedMany_11 (by decide) (fun h11 => ?_) (fun h11 => ?_)
    · refine lv_iconst (v := 0) hx hb d_EM_feedMany_18 (by decide) ?_
      refine em_put C hw rfl lk_EM_0 rfl rfl rfl (Nat.le_of_ble_eq_true rfl) (W1 := emW cI cZ q K V ord lf 0 w (S * w + w) fed r (fed - r * w) true gone current key value many sum least most) rfl d_EM_feedMany_19 (fun H locs hw => ?_)
      refine lv_aload_n hx hb d_EM_feedMany_22 rfl (lv_at hl 0 rfl) ?_
      refine em_get C hw rfl lk_EM_0 rfl d_EM_feedMany_23 ?_
      refine lv_if_le (tgt := 31) hx hb d_EM_feedMany_26 (by decide) (fun h26 => ?_) (fun h26 => ?_)
      · refine lv_aload_n hx hb d_EM_feedMany_31 rfl (lv_at hl 0 rfl) ?_
        refine em_get C hw rfl lk_EM_6 rfl d_EM_feedMany_32 ?_
        refine zr_beq hx hb (tgt := 41) d_EM_feedMany_35 (by decide) (fun h35 => ?_) (fun h35 => ?_)
        · exact absurd h35 (by decide)
        · refine lv_bipush (v := (-3)) hx hb d_EM_feedMany_38 (by decide) ?_
          exact zr_iret C () (rfl) hw d_EM_feedMany_40
      · exact absurd (by decide) h26
    · exact absurd (nI_le (by omega) (by omega)) h11
set_option maxHeartbeats 4000000 in
set_option maxRecDepth 100000 in
theorem lp_EM_feedMany {p : Program} {e : Env} {s : State} {m : MethodId} {args : Array Value} {below : List Frame} {meth : Method} {c : Code} {A : Nat → Prop} (hG : Geo w S wl) (C : Cx p m meth c b_EM_feedMany 6 (some .int) s args R_EM) (hA : ∀ q : Nat, s.heap.size ≤ q → A q) {kx stp vy : Int32} {n : Nat} (hn : n ≤ 200) (hai : AI w S fed r) : ∀ (f k : Nat) (H : Heap) (locs : List Loc) (ls : Array Slot), k + f = min n (S * w + w - fed) → Wd D (tyL cI cZ cJ) A s H locs (emW cI cZ q (fmA K fed (fun k => kx + nI k * stp) k) (fmA V fed (fun k => vy + nI k) k) ord lf 0 w (S * w + w) (fed + k) (fmR w fed r k) (fed + k - fmR w fed r k * w) false gone current key value many sum least most) → lv_has ls 6 [(5, .int (nI k)), (0, .ref (q 0)), (1, .int kx), (2, .int stp), (3, .int vy), (4, .int (nI n))] → W p l e (rmF 1 22) s m args below meth c H locs 0 0 (MQ below (va_Qi (fun res (_ : Unit) => res = nI (min n (S * w + w - fed))) (cB D (tyL cI cZ cJ) A (fun (_ : Unit) => emW cI cZ q (fmA K fed (fun k => kx + nI k * stp) (min n (S * w + w - fed))) (fmA V fed (fun k => vy + nI k) (min n (S * w + w - fed))) ord lf 0 w (S * w + w) (fed + (min n (S * w + w - fed))) (fmR w fed r (min n (S * w + w - fed))) (fed + (min n (S * w + w - fed)) - fmR w fed r (min n (S * w + w - fed)) * w) false gone current key value many sum least most)) A) args s 0 0 A) (F0 m 44 ls []) := by
  have hx := C.1.1
  have hb := C.1.2.1
  have hG2 := hG
  obtain ⟨hw0, hwb, hS, hS2, -⟩ := hG
  obtain ⟨hai1, hai2, hai3⟩ := id hai
  intro f
  induction f with
  | zero =>
    intro k H locs ls hk hw hl
    have ek : k = min n (S * w + w - fed) := hk
    refine lv_iload hx hb d_EM_feedMany_44 (lv_at hl 0 rfl) ?_
    refine lv_iload hx hb d_EM_feedMany_46 (lv_at hl 5 rfl) ?_
    refine zr_cge hx hb (by omega) (by omega) (tgt := 82) d_EM_feedMany_48 (by decide) (fun h48 => ?_) (fun h48 => ?_)
    · refine lv_iload hx hb d_EM_feedMany_82 (lv_at hl 0 rfl) ?_
      exact zr_iret C () (by rw [← ek]) (by rw [← ek]; exact hw) d_EM_feedMany_84
    · refine lv_aload_n hx hb d_EM_feedMany_51 rfl (lv_at hl 1 rfl) ?_
      refine em_get C hw rfl lk_EM_3 rfl d_EM_feedMany_52 ?_
      refine lv_aload_n hx hb d_EM_feedMany_55 rfl (lv_at hl 1 rfl) ?_
      refine em_get C hw rfl lk_EM_2 rfl d_EM_feedMany_56 ?_
      refine zr_cge hx hb (by omega) (by omega) (tgt := 82) d_EM_feedMany_59 (by decide) (fun h59 => ?_) (fun h59 => ?_)
      · refine lv_iload hx hb d_EM_feedMany_82 (lv_at hl 0 rfl) ?_
        exact zr_iret C () (by rw [← ek]) (by rw [← ek]; exact hw) d_EM_feedMany_84
      · exact absurd h59 (by omega)
  | succ f ih =>
    intro k H locs ls hk hw hl
    refine lv_iload hx hb d_EM_feedMany_44 (lv_at hl 0 rfl) ?_
    refine lv_iload hx hb d_EM_feedMany_46 (lv_at hl 5 rfl) ?_
    refine zr_cge hx hb (by omega) (by omega) (tgt := 82) d_EM_feedMany_48 (by decide) (fun h48 => ?_) (fun h48 => ?_)
    · exact absurd h48 (by omega)
    · refine lv_aload_n hx hb d_EM_feedMany_51 rfl (lv_at hl 1 rfl) ?_
      refine em_get C hw rfl lk_EM_3 rfl d_EM_feedMany_52 ?_
      refine lv_aload_n hx hb d_EM_feedMany_55 rfl (lv_at hl 1 rfl) ?_
      refine em_get C hw rfl lk_EM_2 rfl d_EM_feedMany_56 ?_
      refine zr_cge hx hb (by omega) (by omega) (tgt := 82) d_EM_feedMany_59 (by decide) (fun h59 => ?_) (fun h59 => ?_)
      · exact absurd h59 (by omega)
      · refine lv_aload_n hx hb d_EM_feedMany_62 rfl (lv_at hl 1 rfl) ?_
        refine lv_iload_n hx hb d_EM_feedMany_63 rfl (lv_at hl 2 rfl) ?_
        refine lv_iload hx hb d_EM_feedMany_64 (lv_at hl 0 rfl) ?_
        refine lv_iload_n hx hb d_EM_feedMany_66 rfl (lv_at hl 3 rfl) ?_
        refine lv_imul hx hb d_EM_feedMany_67 ?_
        refine lv_iadd hx hb d_EM_feedMany_68 ?_
        refine lv_iload_n hx hb d_EM_feedMany_69 rfl (lv_at hl 4 rfl) ?_
        refine lv_iload hx hb d_EM_feedMany_70 (lv_at hl 0 rfl) ?_
        refine lv_iadd hx hb d_EM_feedMany_72 ?_
        refine zr_callv0 (As := [.int (kx + ((nI k) * stp)), .int (vy + (nI k))]) (rest := []) C hA hw hl.1 g_EM_EM_take (c_EM_take hG2 (hai.fm hw0 k (by omega)) (by omega)) h_EM_take ⟨Nat.le_of_ble_eq_true rfl, Nat.le_of_ble_eq_true rfl⟩ rfl rfl rfl (Nat.le_of_ble_eq_true rfl) d_EM_feedMany_73 ⟨rfl, rfl⟩ ⟨Nat.zero_le _, Nat.zero_le _⟩ (fun u H locs hres hw => ?_)
        have hw : Wd D (tyL cI cZ cJ) A s H locs (emW cI cZ q (fmA K fed (fun k => kx + nI k * stp) (k + 1)) (fmA V fed (fun k => vy + nI k) (k + 1)) ord lf 0 w (S * w + w) (fed + (k + 1)) (fmR w fed r (k + 1)) (fed + (k + 1) - fmR w fed r (k + 1) * w) false gone current key value many sum least most) := hw
        refine lv_iinc (v := nI (k + 1)) (lv' := [(5, .int (nI (k + 1))), (0, .ref (q 0)), (1, .int kx), (2, .int stp), (3, .int vy), (4, .int (nI n))]) hx hb d_EM_feedMany_76 hl (k := 0) rfl (nI_1 _) (by decide) rfl (fun ls hl => ?_)
        refine lv_goto (tgt := 44) hx hb d_EM_feedMany_79 (by decide) ?_
        exact ih (k + 1) H locs ls (by omega) hw hl
set_option maxHeartbeats 4000000 in
set_option maxRecDepth 100000 in
theorem c_EM_feedMany_u (hG : Geo w S wl) {kx stp vy : Int32} {n : Nat} (hn : n ≤ 200) (hai : AI w S fed r) : MetI l y_EM_feedMany b_EM_feedMany 6 (some .int) (rmF 1 22) D (tyL cI cZ cJ) [.ref (q 0), .int kx, .int stp, .int vy, .int (nI n)] (emW cI cZ q K V ord lf thrown w (S * w + w) fed r (fed - r * w) false gone current key value many sum least most) sz (fun res (_ : Unit) => res = nI (min n (S * w + w - fed))) (fun _ => emW cI cZ q (fmA K fed (fun k => kx + nI k * stp) (min n (S * w + w - fed))) (fmA V fed (fun k => vy + nI k) (min n (S * w + w - fed))) ord lf 0 w (S * w + w) (fed + (min n (S * w + w - fed))) (fmR w fed r (min n (S * w + w - fed))) (fed + (min n (S * w + w - fed)) - fmR w fed r (min n (S * w + w - fed)) * w) false gone current key value many sum least most) := by
  refine MetI.of (by decide) (Nat.le_of_ble_eq_true rfl) ?_
  intro p e s m below meth c A ls C hnm hA hw hl
  have hx := C.1.1
  have hb := C.1.2.1
  have hl : lv_has ls 6 [(0, .ref (q 0)), (1, .int kx), (2, .int stp), (3, .int vy), (4, .int (nI n))] := hl
  refine lv_aload_n hx hb d_EM_feedMany_0 rfl (lv_at hl 0 rfl) ?_
  refine lv_iload hx hb d_EM_feedMany_1 (lv_at hl 4 rfl) ?_
  refine lv_if_lt (tgt := 14) hx hb d_EM_feedMany_3 (by decide) (fun h3 => ?_) (fun h3 => ?_)
  · exact absurd h3 (nI_pos (by omega))
  · refine lv_iload hx hb d_EM_feedMany_6 (lv_at hl 4 rfl) ?_
    refine lv_sipush (v := nI 200) hx hb d_EM_feedMany_8 (by decide) ?_
    refine lv_icmp_le (tgt := 18) hx hb d_EM_feedMany_11 (by decide) (fun h11 => ?_) (fun h11 => ?_)
    · refine lv_iconst (v := 0) hx hb d_EM_feedMany_18 (by decide) ?_
      refine em_put C hw rfl lk_EM_0 rfl rfl rfl (Nat.le_of_ble_eq_true rfl) (W1 := emW cI cZ q K V ord lf 0 w (S * w + w) fed r (fed - r * w) false gone current key value many sum least most) rfl d_EM_feedMany_19 (fun H locs hw => ?_)
      refine lv_aload_n hx hb d_EM_feedMany_22 rfl (lv_at hl 0 rfl) ?_
      refine em_get C hw rfl lk_EM_0 rfl d_EM_feedMany_23 ?_
      refine lv_if_le (tgt := 31) hx hb d_EM_feedMany_26 (by decide) (fun h26 => ?_) (fun h26 => ?_)
      · refine lv_aload_n hx hb d_EM_feedMany_31 rfl (lv_at hl 0 rfl) ?_
        refine em_get C hw rfl lk_EM_6 rfl d_EM_feedMany_32 ?_
        refine zr_beq hx hb (tgt := 41) d_EM_feedMany_35 (by decide) (fun h35 => ?_) (fun h35 => ?_)
        · refine lv_iconst (v := nI 0) hx hb d_EM_feedMany_41 (by decide) ?_
          refine lv_istore (lv' := [(5, .int (nI 0)), (0, .ref (q 0)), (1, .int kx), (2, .int stp), (3, .int vy), (4, .int (nI n))]) hx hb d_EM_feedMany_42 hl (by decide) rfl (fun ls hl => ?_)
          exact lp_EM_feedMany hG C hA hn hai (min n (S * w + w - fed)) 0 _ _ ls (by omega) hw (lv_sub hl [0, 1, 2, 3, 4, 5] rfl)
        · exact absurd h35 (by decide)
      · exact absurd (by decide) h26
    · exact absurd (nI_le (by omega) (by omega)) h11
set_option maxHeartbeats 4000000 in
set_option maxRecDepth 100000 in
theorem c_EM_seal_s  : MetI l y_EM_seal b_EM_seal 3 (some .int) (rmF 0 0) D (tyL cI cZ cJ) [.ref (q 0)] (emW cI cZ q K V ord lf thrown w (S * w + w) fed r (fed - r * w) true gone current key value many sum least most) sz (fun res (_ : Unit) => res = -3) (fun _ => emW cI cZ q K V ord lf 0 w (S * w + w) fed r (fed - r * w) true gone current key value many sum least most) := by
  refine MetI.of (by decide) (Nat.le_of_ble_eq_true rfl) ?_
  intro p e s m below meth c A ls C hnm hA hw hl
  have hx := C.1.1
  have hb := C.1.2.1
  have hl : lv_has ls 3 [(0, .ref (q 0))] := hl
  refine lv_aload_n hx hb d_EM_seal_0 rfl (lv_at hl 0 rfl) ?_
  refine lv_iconst (v := 0) hx hb d_EM_seal_1 (by decide) ?_
  refine em_put C hw rfl lk_EM_0 rfl rfl rfl (Nat.le_of_ble_eq_true rfl) (W1 := emW cI cZ q K V ord lf 0 w (S * w + w) fed r (fed - r * w) true gone current key value many sum least most) rfl d_EM_seal_2 (fun H locs hw => ?_)
  refine lv_aload_n hx hb d_EM_seal_5 rfl (lv_at hl 0 rfl) ?_
  refine em_get C hw rfl lk_EM_6 rfl d_EM_seal_6 ?_
  refine zr_beq hx hb (tgt := 15) d_EM_seal_9 (by decide) (fun h9 => ?_) (fun h9 => ?_)
  · exact absurd h9 (by decide)
  · refine lv_bipush (v := (-3)) hx hb d_EM_seal_12 (by decide) ?_
    exact zr_iret C () (rfl) hw d_EM_seal_14
set_option maxHeartbeats 4000000 in
set_option maxRecDepth 100000 in
theorem lp_EM_seal2 {p : Program} {e : Env} {s : State} {m : MethodId} {args : Array Value} {below : List Frame} {meth : Method} {c : Code} {A : Nat → Prop} (C : Cx p m meth c b_EM_seal 3 (some .int) s args R_EM) (hA : ∀ q : Nat, s.heap.size ≤ q → A q) {Q : State → Prop} {k t : Nat} {o : Nat → Nat} (hk : k < 2064) (ho : ∀ i, i < k → o i < k) (KK : ∀ (ord : Nat → Nat) (H : Heap) (locs : List Loc) (ls : Array Slot), (∀ i, i < k + 1 → ord i = insF k t o i) → Wd D (tyL cI cZ cJ) A s H locs (emW cI cZ q K V ord lf thrown w (S * w + w) fed r (fed - r * w) reading gone current key value many sum least most) → lv_has ls 3 [(1, .int (nI k)), (0, .ref (q 0))] → W p l e (rmF 0 0) s m args below meth c H locs 0 0 Q (F0 m 95 ls [])) : ∀ (a : Nat) (ord : Nat → Nat) (H : Heap) (locs : List Loc) (ls : Array Slot), a ≤ k → posF K k o a = t → (∀ i, i < a → ord i = o i) → (∀ i, a < i → i ≤ k → ord i = o (i - 1)) → Wd D (tyL cI cZ cJ) A s H locs (emW cI cZ q K V ord lf thrown w (S * w + w) fed r (fed - r * w) reading gone current key value many sum least most) → lv_has ls 3 [(2, .int (nI a)), (1, .int (nI k)), (0, .ref (q 0))] → W p l e (rmF 0 0) s m args below meth c H locs 0 0 Q (F0 m 42 ls []) := by
  have hx := C.1.1
  have hb := C.1.2.1
  intro a
  induction a with
  | zero =>
    intro ord H locs ls ha ht h1 h2 hw hl
    have et : t = 0 := ht.symm
    refine lv_iload_n hx hb d_EM_seal_42 rfl (lv_at hl 0 rfl) ?_
    refine zr_cle0 hx hb (by omega) (tgt := 88) d_EM_seal_43 (by decide) (fun h43 => ?_) (fun h43 => ?_)
    · refine lv_aload_n hx hb d_EM_seal_88 rfl (lv_at hl 2 rfl) ?_
      refine em_get C hw rfl lk_EM_17 rfl d_EM_seal_89 ?_
      refine lv_iload_n hx hb d_EM_seal_92 rfl (lv_at hl 0 rfl) ?_
      refine lv_iload_n hx hb d_EM_seal_93 rfl (lv_at hl 1 rfl) ?_
      refine zr_ast C hw 3 0 rfl rfl (by omega) (by omega) (upd_nA _ _ _) (W1 := emW cI cZ q K V (va_up ord 0 k) lf thrown w (S * w + w) fed r (fed - r * w) reading gone current key value many sum least most) rfl d_EM_seal_94 (fun H locs hw => ?_)
      exact KK _ H locs ls (fun i hi => by
          by_cases q1 : i = 0
          · rw [q1, va_up_s]; unfold insF; rw [if_neg (by omega), if_pos (by omega)]
          · rw [va_up_o _ _ q1]; unfold insF
            by_cases q2 : i < 0
            · rw [if_pos (by omega)]; exact h1 i q2
            · rw [if_neg (by omega), if_neg (by omega)]; exact h2 i (by omega) (by omega)) hw (lv_sub hl [1, 2] rfl)
    · exact absurd h43 (by omega)
  | succ a ih =>
    intro ord H locs ls ha ht h1 h2 hw hl
    have ea : ord a = o a := h1 a (by omega)
    have eb := ho a (by omega)
    refine lv_iload_n hx hb d_EM_seal_42 rfl (lv_at hl 0 rfl) ?_
    refine zr_cle0 hx hb (by omega) (tgt := 88) d_EM_seal_43 (by decide) (fun h43 => ?_) (fun h43 => ?_)
    · exact absurd h43 (by omega)
    · refine lv_aload_n hx hb d_EM_seal_46 rfl (lv_at hl 2 rfl) ?_
      refine em_get C hw rfl lk_EM_15 rfl d_EM_seal_47 ?_
      refine lv_aload_n hx hb d_EM_seal_50 rfl (lv_at hl 2 rfl) ?_
      refine em_get C hw rfl lk_EM_17 rfl d_EM_seal_51 ?_
      refine lv_iload_n hx hb d_EM_seal_54 rfl (lv_at hl 0 rfl) ?_
      refine lv_iconst (v := nI 1) hx hb d_EM_seal_55 (by decide) ?_
      refine zr_sub hx hb (by omega) d_EM_seal_56 ?_
      refine zr_top (y := nI a) rfl ?_
      refine zr_ald C hw 3 0 rfl rfl (by omega) (by omega) (v := nI (ord a)) rfl d_EM_seal_57 ?_
      refine zr_top (y := nI (o a)) (congrArg nI ea) ?_
      refine zr_ald C hw 1 0 rfl rfl (by omega) (by omega) (v := K (o a)) rfl d_EM_seal_58 ?_
      refine lv_aload_n hx hb d_EM_seal_59 rfl (lv_at hl 2 rfl) ?_
      refine em_get C hw rfl lk_EM_15 rfl d_EM_seal_60 ?_
      refine lv_iload_n hx hb d_EM_seal_63 rfl (lv_at hl 1 rfl) ?_
      refine zr_ald C hw 1 0 rfl rfl (by omega) (by omega) (v := K k) rfl d_EM_seal_64 ?_
      refine lv_icmp_le (tgt := 88) hx hb d_EM_seal_65 (by decide) (fun h65 => ?_) (fun h65 => ?_)
      · have et : t = a + 1 := by rw [← ht]; simp only [posF]; rw [if_neg (Int32.not_lt.mpr h65)]
        refine lv_aload_n hx hb d_EM_seal_88 rfl (lv_at hl 2 rfl) ?_
        refine em_get C hw rfl lk_EM_17 rfl d_EM_seal_89 ?_
        refine lv_iload_n hx hb d_EM_seal_92 rfl (lv_at hl 0 rfl) ?_
        refine lv_iload_n hx hb d_EM_seal_93 rfl (lv_at hl 1 rfl) ?_
        refine zr_ast C hw 3 0 rfl rfl (by omega) (by omega) (upd_nA _ _ _) (W1 := emW cI cZ q K V (va_up ord (a + 1) k) lf thrown w (S * w + w) fed r (fed - r * w) reading gone current key value many sum least most) rfl d_EM_seal_94 (fun H locs hw => ?_)
        exact KK _ H locs ls (fun i hi => by
            by_cases q1 : i = a + 1
            · rw [q1, va_up_s]; unfold insF; rw [if_neg (by omega), if_pos (by omega)]
            · rw [va_up_o _ _ q1]; unfold insF
              by_cases q2 : i < a + 1
              · rw [if_pos (by omega)]; exact h1 i q2
              · rw [if_neg (by omega), if_neg (by omega)]; exact h2 i (by omega) (by omega)) hw (lv_sub hl [1, 2] rfl)
      · have ht2 : posF K k o a = t := by rw [← ht]; simp only [posF]; rw [if_pos (Int32.not_le.mp h65)]
        refine lv_aload_n hx hb d_EM_seal_68 rfl (lv_at hl 2 rfl) ?_
        refine em_get C hw rfl lk_EM_17 rfl d_EM_seal_69 ?_
        refine lv_iload_n hx hb d_EM_seal_72 rfl (lv_at hl 0 rfl) ?_
        refine lv_aload_n hx hb d_EM_seal_73 rfl (lv_at hl 2 rfl) ?_
        refine em_get C hw rfl lk_EM_17 rfl d_EM_seal_74 ?_
        refine lv_iload_n hx hb d_EM_seal_77 rfl (lv_at hl 0 rfl) ?_
        refine lv_iconst (v := nI 1) hx hb d_EM_seal_78 (by decide) ?_
        refine zr_sub hx hb (by omega) d_EM_seal_79 ?_
        refine zr_top (y := nI a) rfl ?_
        refine zr_ald C hw 3 0 rfl rfl (by omega) (by omega) (v := nI (ord a)) rfl d_EM_seal_80 ?_
        refine zr_top (y := nI (o a)) (congrArg nI ea) ?_
        refine zr_ast C hw 3 0 rfl rfl (by omega) (by omega) (upd_nA _ _ _) (W1 := emW cI cZ q K V (va_up ord (a + 1) (o a)) lf thrown w (S * w + w) fed r (fed - r * w) reading gone current key value many sum least most) rfl d_EM_seal_81 (fun H locs hw => ?_)
        refine lv_iinc (v := nI a) (lv' := [(2, .int (nI a)), (1, .int (nI k)), (0, .ref (q 0))]) hx hb d_EM_seal_82 hl (k := 0) rfl (pk_m1 a) (by decide) rfl (fun ls hl => ?_)
        refine lv_goto (tgt := 42) hx hb d_EM_seal_85 (by decide) ?_
        exact ih _ H locs ls (by omega) ht2 (fun i hi => by rw [va_up_o _ _ (by omega)]; exact h1 i (by omega)) (fun i hi hik => by
            by_cases q1 : i = a + 1
            · rw [q1, va_up_s]; rfl
            · rw [va_up_o _ _ q1]; exact h2 i (by omega) hik) hw hl
set_option maxHeartbeats 4000000 in
set_option maxRecDepth 100000 in
theorem lp_EM_seal1 {p : Program} {e : Env} {s : State} {m : MethodId} {args : Array Value} {below : List Frame} {meth : Method} {c : Code} {A : Nat → Prop} (C : Cx p m meth c b_EM_seal 3 (some .int) s args R_EM) (hA : ∀ q : Nat, s.heap.size ≤ q → A q) (hf : fed ≤ 2064) : ∀ (n k : Nat) (ord : Nat → Nat) (H : Heap) (locs : List Loc) (ls : Array Slot), k + n = fed → (∀ i, i < k → ord i = ordf K k i) → Wd D (tyL cI cZ cJ) A s H locs (emW cI cZ q K V ord lf 0 w (S * w + w) fed r (fed - r * w) true 0 0 key value many sum least most) → lv_has ls 3 [(1, .int (nI k)), (0, .ref (q 0))] → W p l e (rmF 0 0) s m args below meth c H locs 0 0 (MQ below (va_Qi (fun res (od : Nat → Nat) => res = 0 ∧ ∀ i, i < fed → od i = ordf K fed i) (cB D (tyL cI cZ cJ) A (fun od => emW cI cZ q K V od lf 0 w (S * w + w) fed r (fed - r * w) true 0 0 key value many sum least most)) A) args s 0 0 A) (F0 m 32 ls []) := by
  have hx := C.1.1
  have hb := C.1.2.1
  intro n
  induction n with
  | zero =>
    intro k ord H locs ls hk ho hw hl
    have ek : k = fed := hk
    refine lv_iload_n hx hb d_EM_seal_32 rfl (lv_at hl 0 rfl) ?_
    refine lv_aload_n hx hb d_EM_seal_33 rfl (lv_at hl 1 rfl) ?_
    refine em_get C hw rfl lk_EM_3 rfl d_EM_seal_34 ?_
    refine zr_cge hx hb (by omega) (by omega) (tgt := 101) d_EM_seal_37 (by decide) (fun h37 => ?_) (fun h37 => ?_)
    · refine lv_iconst (v := 0) hx hb d_EM_seal_101 (by decide) ?_
      exact zr_iret C ord ⟨rfl, by rw [← ek]; exact ho⟩ hw d_EM_seal_102
    · exact absurd h37 (by omega)
  | succ n ih =>
    intro k ord H locs ls hk ho hw hl
    refine lv_iload_n hx hb d_EM_seal_32 rfl (lv_at hl 0 rfl) ?_
    refine lv_aload_n hx hb d_EM_seal_33 rfl (lv_at hl 1 rfl) ?_
    refine em_get C hw rfl lk_EM_3 rfl d_EM_seal_34 ?_
    refine zr_cge hx hb (by omega) (by omega) (tgt := 101) d_EM_seal_37 (by decide) (fun h37 => ?_) (fun h37 => ?_)
    · exact absurd h37 (by omega)
    · refine lv_iload_n hx hb d_EM_seal_40 rfl (lv_at hl 0 rfl) ?_
      refine lv_istore_n (lv' := [(2, .int (nI k)), (1, .int (nI k)), (0, .ref (q 0))]) hx hb d_EM_seal_41 rfl hl (by decide) rfl (fun ls hl => ?_)
      refine lp_EM_seal2 (k := k) (t := posF K k (ordf K k) k) (o := ordf K k) C hA (by omega) (fun i hi => ordf_lt (by omega) hi) (fun ord H locs ls ho2 hw hl => ?_) k ord H locs ls (Nat.le_refl _) rfl ho (fun i h1 h2 => by omega) hw (lv_sub hl [0, 1, 2] rfl)
      refine lv_iinc (v := nI (k + 1)) (lv' := [(1, .int (nI (k + 1))), (0, .ref (q 0))]) hx hb d_EM_seal_95 hl (k := 0) rfl (nI_1 _) (by decide) rfl (fun ls hl => ?_)
      refine lv_goto (tgt := 32) hx hb d_EM_seal_98 (by decide) ?_
      exact ih (k + 1) ord H locs ls (by omega) ho2 hw hl
set_option maxHeartbeats 4000000 in
set_option maxRecDepth 100000 in
theorem c_EM_seal_u (hf : fed ≤ 2064) : MetI l y_EM_seal b_EM_seal 3 (some .int) (rmF 0 0) D (tyL cI cZ cJ) [.ref (q 0)] (emW cI cZ q K V ord lf thrown w (S * w + w) fed r (fed - r * w) false gone current key value many sum least most) sz (fun res (od : Nat → Nat) => res = 0 ∧ ∀ i, i < fed → od i = ordf K fed i) (fun od => emW cI cZ q K V od lf 0 w (S * w + w) fed r (fed - r * w) true 0 0 key value many sum least most) := by
  refine MetI.of (by decide) (Nat.le_of_ble_eq_true rfl) ?_
  intro p e s m below meth c A ls C hnm hA hw hl
  have hx := C.1.1
  have hb := C.1.2.1
  have hl : lv_has ls 3 [(0, .ref (q 0))] := hl
  refine lv_aload_n hx hb d_EM_seal_0 rfl (lv_at hl 0 rfl) ?_
  refine lv_iconst (v := 0) hx hb d_EM_seal_1 (by decide) ?_
  refine em_put C hw rfl lk_EM_0 rfl rfl rfl (Nat.le_of_ble_eq_true rfl) (W1 := emW cI cZ q K V ord lf 0 w (S * w + w) fed r (fed - r * w) false gone current key value many sum least most) rfl d_EM_seal_2 (fun H locs hw => ?_)
  refine lv_aload_n hx hb d_EM_seal_5 rfl (lv_at hl 0 rfl) ?_
  refine em_get C hw rfl lk_EM_6 rfl d_EM_seal_6 ?_
  refine zr_beq hx hb (tgt := 15) d_EM_seal_9 (by decide) (fun h9 => ?_) (fun h9 => ?_)
  · refine lv_aload_n hx hb d_EM_seal_15 rfl (lv_at hl 0 rfl) ?_
    refine lv_iconst (v := bI true) hx hb d_EM_seal_16 (by decide) ?_
    refine em_put C hw rfl lk_EM_6 rfl (bI_nar _) (bI_fit _) (Nat.le_of_ble_eq_true rfl) (W1 := emW cI cZ q K V ord lf 0 w (S * w + w) fed r (fed - r * w) true gone current key value many sum least most) rfl d_EM_seal_17 (fun H locs hw => ?_)
    refine lv_aload_n hx hb d_EM_seal_20 rfl (lv_at hl 0 rfl) ?_
    refine lv_iconst (v := nI 0) hx hb d_EM_seal_21 (by decide) ?_
    refine em_put C hw rfl lk_EM_7 rfl rfl rfl (Nat.le_of_ble_eq_true rfl) (W1 := emW cI cZ q K V ord lf 0 w (S * w + w) fed r (fed - r * w) true 0 current key value many sum least most) rfl d_EM_seal_22 (fun H locs hw => ?_)
    refine lv_aload_n hx hb d_EM_seal_25 rfl (lv_at hl 0 rfl) ?_
    refine lv_iconst (v := 0) hx hb d_EM_seal_26 (by decide) ?_
    refine em_put C hw rfl lk_EM_8 rfl rfl rfl (Nat.le_of_ble_eq_true rfl) (W1 := emW cI cZ q K V ord lf 0 w (S * w + w) fed r (fed - r * w) true 0 0 key value many sum least most) rfl d_EM_seal_27 (fun H locs hw => ?_)
    refine lv_iconst (v := nI 0) hx hb d_EM_seal_30 (by decide) ?_
    refine lv_istore_n (lv' := [(1, .int (nI 0)), (0, .ref (q 0))]) hx hb d_EM_seal_31 rfl hl (by decide) rfl (fun ls hl => ?_)
    exact lp_EM_seal1 C hA hf fed 0 ord H locs ls (by omega) (fun i hi => by omega) hw (lv_sub hl [0, 1] rfl)
  · exact absurd h9 (by decide)
set_option maxHeartbeats 4000000 in
set_option maxRecDepth 100000 in
theorem c_EM_nextRow_u  : MetI l y_EM_nextRow b_EM_nextRow 1 (some .int) (rmF 0 0) D (tyL cI cZ cJ) [.ref (q 0)] (emW cI cZ q K V ord lf thrown w (S * w + w) fed r (fed - r * w) false gone current key value many sum least most) sz (fun res (_ : Unit) => res = -4) (fun _ => emW cI cZ q K V ord lf 0 w (S * w + w) fed r (fed - r * w) false gone current key value many sum least most) := by
  refine MetI.of (by decide) (Nat.le_of_ble_eq_true rfl) ?_
  intro p e s m below meth c A ls C hnm hA hw hl
  have hx := C.1.1
  have hb := C.1.2.1
  have hl : lv_has ls 1 [(0, .ref (q 0))] := hl
  refine lv_aload_n hx hb d_EM_nextRow_0 rfl (lv_at hl 0 rfl) ?_
  refine lv_iconst (v := 0) hx hb d_EM_nextRow_1 (by decide) ?_
  refine em_put C hw rfl lk_EM_0 rfl rfl rfl (Nat.le_of_ble_eq_true rfl) (W1 := emW cI cZ q K V ord lf 0 w (S * w + w) fed r (fed - r * w) false gone current key value many sum least most) rfl d_EM_nextRow_2 (fun H locs hw => ?_)
  refine lv_aload_n hx hb d_EM_nextRow_5 rfl (lv_at hl 0 rfl) ?_
  refine em_get C hw rfl lk_EM_6 rfl d_EM_nextRow_6 ?_
  refine zr_bne hx hb (tgt := 15) d_EM_nextRow_9 (by decide) (fun h9 => ?_) (fun h9 => ?_)
  · exact absurd h9 (by decide)
  · refine lv_bipush (v := (-4)) hx hb d_EM_nextRow_12 (by decide) ?_
    exact zr_iret C () (rfl) hw d_EM_nextRow_14
set_option maxHeartbeats 4000000 in
set_option maxRecDepth 100000 in
theorem c_EM_nextRow_e (hf : fed ≤ 2064) : MetI l y_EM_nextRow b_EM_nextRow 1 (some .int) (rmF 0 0) D (tyL cI cZ cJ) [.ref (q 0)] (emW cI cZ q K V ord lf thrown w (S * w + w) fed r (fed - r * w) true fed current key value many sum least most) sz (fun res (_ : Unit) => res = -1) (fun _ => emW cI cZ q K V ord lf 0 w (S * w + w) fed r (fed - r * w) true fed 0 key value many sum least most) := by
  refine MetI.of (by decide) (Nat.le_of_ble_eq_true rfl) ?_
  intro p e s m below meth c A ls C hnm hA hw hl
  have hx := C.1.1
  have hb := C.1.2.1
  have hl : lv_has ls 1 [(0, .ref (q 0))] := hl
  refine lv_aload_n hx hb d_EM_nextRow_0 rfl (lv_at hl 0 rfl) ?_
  refine lv_iconst (v := 0) hx hb d_EM_nextRow_1 (by decide) ?_
  refine em_put C hw rfl lk_EM_0 rfl rfl rfl (Nat.le_of_ble_eq_true rfl) (W1 := emW cI cZ q K V ord lf 0 w (S * w + w) fed r (fed - r * w) true fed current key value many sum least most) rfl d_EM_nextRow_2 (fun H locs hw => ?_)
  refine lv_aload_n hx hb d_EM_nextRow_5 rfl (lv_at hl 0 rfl) ?_
  refine em_get C hw rfl lk_EM_6 rfl d_EM_nextRow_6 ?_
  refine zr_bne hx hb (tgt := 15) d_EM_nextRow_9 (by decide) (fun h9 => ?_) (fun h9 => ?_)
  · refine lv_aload_n hx hb d_EM_nextRow_15 rfl (lv_at hl 0 rfl) ?_
    refine em_get C hw rfl lk_EM_7 rfl d_EM_nextRow_16 ?_
    refine lv_aload_n hx hb d_EM_nextRow_19 rfl (lv_at hl 0 rfl) ?_
    refine em_get C hw rfl lk_EM_3 rfl d_EM_nextRow_20 ?_
    refine zr_cne hx hb (by omega) (by omega) (tgt := 33) d_EM_nextRow_23 (by decide) (fun h23 => ?_) (fun h23 => ?_)
    · exact absurd rfl h23
    · refine lv_aload_n hx hb d_EM_nextRow_26 rfl (lv_at hl 0 rfl) ?_
      refine lv_iconst (v := 0) hx hb d_EM_nextRow_27 (by decide) ?_
      refine em_put C hw rfl lk_EM_8 rfl rfl rfl (Nat.le_of_ble_eq_true rfl) (W1 := emW cI cZ q K V ord lf 0 w (S * w + w) fed r (fed - r * w) true fed 0 key value many sum least most) rfl d_EM_nextRow_28 (fun H locs hw => ?_)
      refine lv_iconst (v := (-1)) hx hb d_EM_nextRow_31 (by decide) ?_
      exact zr_iret C () (rfl) hw d_EM_nextRow_32
  · exact absurd h9 (by decide)
set_option maxHeartbeats 4000000 in
set_option maxRecDepth 100000 in
theorem c_EM_nextRow_g (hf : fed ≤ 2064) (ho : ∀ i, i < fed → ord i = ordf K fed i) (hc : gone < fed) : MetI l y_EM_nextRow b_EM_nextRow 1 (some .int) (rmF 0 0) D (tyL cI cZ cJ) [.ref (q 0)] (emW cI cZ q K V ord lf thrown w (S * w + w) fed r (fed - r * w) true gone current key value many sum least most) sz (fun res (_ : Unit) => res = 1) (fun _ => emW cI cZ q K V ord lf 0 w (S * w + w) fed r (fed - r * w) true (gone + 1) 1 (K (ordf K fed gone)) (V (ordf K fed gone)) many sum least most) := by
  refine MetI.of (by decide) (Nat.le_of_ble_eq_true rfl) ?_
  intro p e s m below meth c A ls C hnm hA hw hl
  have hx := C.1.1
  have hb := C.1.2.1
  have hl : lv_has ls 1 [(0, .ref (q 0))] := hl
  have hlt := ordf_lt (K := K) (n := fed) (by omega) hc
  refine lv_aload_n hx hb d_EM_nextRow_0 rfl (lv_at hl 0 rfl) ?_
  refine lv_iconst (v := 0) hx hb d_EM_nextRow_1 (by decide) ?_
  refine em_put C hw rfl lk_EM_0 rfl rfl rfl (Nat.le_of_ble_eq_true rfl) (W1 := emW cI cZ q K V ord lf 0 w (S * w + w) fed r (fed - r * w) true gone current key value many sum least most) rfl d_EM_nextRow_2 (fun H locs hw => ?_)
  refine lv_aload_n hx hb d_EM_nextRow_5 rfl (lv_at hl 0 rfl) ?_
  refine em_get C hw rfl lk_EM_6 rfl d_EM_nextRow_6 ?_
  refine zr_bne hx hb (tgt := 15) d_EM_nextRow_9 (by decide) (fun h9 => ?_) (fun h9 => ?_)
  · refine lv_aload_n hx hb d_EM_nextRow_15 rfl (lv_at hl 0 rfl) ?_
    refine em_get C hw rfl lk_EM_7 rfl d_EM_nextRow_16 ?_
    refine lv_aload_n hx hb d_EM_nextRow_19 rfl (lv_at hl 0 rfl) ?_
    refine em_get C hw rfl lk_EM_3 rfl d_EM_nextRow_20 ?_
    refine zr_cne hx hb (by omega) (by omega) (tgt := 33) d_EM_nextRow_23 (by decide) (fun h23 => ?_) (fun h23 => ?_)
    · refine lv_aload_n hx hb d_EM_nextRow_33 rfl (lv_at hl 0 rfl) ?_
      refine lv_iconst (v := 1) hx hb d_EM_nextRow_34 (by decide) ?_
      refine em_put C hw rfl lk_EM_8 rfl rfl rfl (Nat.le_of_ble_eq_true rfl) (W1 := emW cI cZ q K V ord lf 0 w (S * w + w) fed r (fed - r * w) true gone 1 key value many sum least most) rfl d_EM_nextRow_35 (fun H locs hw => ?_)
      refine lv_aload_n hx hb d_EM_nextRow_38 rfl (lv_at hl 0 rfl) ?_
      refine lv_aload_n hx hb d_EM_nextRow_39 rfl (lv_at hl 0 rfl) ?_
      refine em_get C hw rfl lk_EM_15 rfl d_EM_nextRow_40 ?_
      refine lv_aload_n hx hb d_EM_nextRow_43 rfl (lv_at hl 0 rfl) ?_
      refine em_get C hw rfl lk_EM_17 rfl d_EM_nextRow_44 ?_
      refine lv_aload_n hx hb d_EM_nextRow_47 rfl (lv_at hl 0 rfl) ?_
      refine em_get C hw rfl lk_EM_7 rfl d_EM_nextRow_48 ?_
      refine zr_ald C hw 3 0 rfl rfl (by omega) (by omega) (v := nI (ord gone)) rfl d_EM_nextRow_51 ?_
      refine zr_top (y := nI (ordf K fed (gone))) (congrArg nI (ho _ (by omega))) ?_
      refine zr_ald C hw 1 0 rfl rfl (by omega) (by omega) (v := K (ordf K fed (gone))) rfl d_EM_nextRow_52 ?_
      refine em_put C hw rfl lk_EM_9 rfl rfl rfl (Nat.le_of_ble_eq_true rfl) (W1 := emW cI cZ q K V ord lf 0 w (S * w + w) fed r (fed - r * w) true gone 1 (K (ordf K fed (gone))) value many sum least most) rfl d_EM_nextRow_53 (fun H locs hw => ?_)
      refine lv_aload_n hx hb d_EM_nextRow_56 rfl (lv_at hl 0 rfl) ?_
      refine lv_aload_n hx hb d_EM_nextRow_57 rfl (lv_at hl 0 rfl) ?_
      refine em_get C hw rfl lk_EM_16 rfl d_EM_nextRow_58 ?_
      refine lv_aload_n hx hb d_EM_nextRow_61 rfl (lv_at hl 0 rfl) ?_
      refine em_get C hw rfl lk_EM_17 rfl d_EM_nextRow_62 ?_
      refine lv_aload_n hx hb d_EM_nextRow_65 rfl (lv_at hl 0 rfl) ?_
      refine em_get C hw rfl lk_EM_7 rfl d_EM_nextRow_66 ?_
      refine zr_ald C hw 3 0 rfl rfl (by omega) (by omega) (v := nI (ord gone)) rfl d_EM_nextRow_69 ?_
      refine zr_top (y := nI (ordf K fed (gone))) (congrArg nI (ho _ (by omega))) ?_
      refine zr_ald C hw 2 0 rfl rfl (by omega) (by omega) (v := V (ordf K fed (gone))) rfl d_EM_nextRow_70 ?_
      refine em_put C hw rfl lk_EM_10 rfl rfl rfl (Nat.le_of_ble_eq_true rfl) (W1 := emW cI cZ q K V ord lf 0 w (S * w + w) fed r (fed - r * w) true gone 1 (K (ordf K fed (gone))) (V (ordf K fed (gone))) many sum least most) rfl d_EM_nextRow_71 (fun H locs hw => ?_)
      refine lv_aload_n hx hb d_EM_nextRow_74 rfl (lv_at hl 0 rfl) ?_
      refine lv_dup hx hb d_EM_nextRow_75 rfl ?_
      refine em_get C hw rfl lk_EM_7 rfl d_EM_nextRow_76 ?_
      refine lv_iconst (v := nI 1) hx hb d_EM_nextRow_79 (by decide) ?_
      refine zr_add hx hb d_EM_nextRow_80 ?_
      refine em_put C hw rfl lk_EM_7 rfl rfl rfl (Nat.le_of_ble_eq_true rfl) (W1 := emW cI cZ q K V ord lf 0 w (S * w + w) fed r (fed - r * w) true (gone + 1) 1 (K (ordf K fed (gone))) (V (ordf K fed (gone))) many sum least most) rfl d_EM_nextRow_81 (fun H locs hw => ?_)
      refine lv_iconst (v := 1) hx hb d_EM_nextRow_84 (by decide) ?_
      exact zr_iret C () (rfl) hw d_EM_nextRow_85
    · exact absurd h23 (by omega)
  · exact absurd h9 (by decide)
set_option maxHeartbeats 4000000 in
set_option maxRecDepth 100000 in
theorem c_EM_nextGroup_u  : MetI l y_EM_nextGroup b_EM_nextGroup 2 (some .int) (rmF 0 0) D (tyL cI cZ cJ) [.ref (q 0)] (emW cI cZ q K V ord lf thrown w (S * w + w) fed r (fed - r * w) false gone current key value many sum least most) sz (fun res (_ : Unit) => res = -4) (fun _ => emW cI cZ q K V ord lf 0 w (S * w + w) fed r (fed - r * w) false gone current key value many sum least most) := by
  refine MetI.of (by decide) (Nat.le_of_ble_eq_true rfl) ?_
  intro p e s m below meth c A ls C hnm hA hw hl
  have hx := C.1.1
  have hb := C.1.2.1
  have hl : lv_has ls 2 [(0, .ref (q 0))] := hl
  refine lv_aload_n hx hb d_EM_nextGroup_0 rfl (lv_at hl 0 rfl) ?_
  refine lv_iconst (v := 0) hx hb d_EM_nextGroup_1 (by decide) ?_
  refine em_put C hw rfl lk_EM_0 rfl rfl rfl (Nat.le_of_ble_eq_true rfl) (W1 := emW cI cZ q K V ord lf 0 w (S * w + w) fed r (fed - r * w) false gone current key value many sum least most) rfl d_EM_nextGroup_2 (fun H locs hw => ?_)
  refine lv_aload_n hx hb d_EM_nextGroup_5 rfl (lv_at hl 0 rfl) ?_
  refine em_get C hw rfl lk_EM_6 rfl d_EM_nextGroup_6 ?_
  refine zr_bne hx hb (tgt := 15) d_EM_nextGroup_9 (by decide) (fun h9 => ?_) (fun h9 => ?_)
  · exact absurd h9 (by decide)
  · refine lv_bipush (v := (-4)) hx hb d_EM_nextGroup_12 (by decide) ?_
    exact zr_iret C () (rfl) hw d_EM_nextGroup_14
set_option maxHeartbeats 4000000 in
set_option maxRecDepth 100000 in
theorem c_EM_nextGroup_e (hf : fed ≤ 2064) : MetI l y_EM_nextGroup b_EM_nextGroup 2 (some .int) (rmF 0 0) D (tyL cI cZ cJ) [.ref (q 0)] (emW cI cZ q K V ord lf thrown w (S * w + w) fed r (fed - r * w) true fed current key value many sum least most) sz (fun res (_ : Unit) => res = -1) (fun _ => emW cI cZ q K V ord lf 0 w (S * w + w) fed r (fed - r * w) true fed 0 key value many sum least most) := by
  refine MetI.of (by decide) (Nat.le_of_ble_eq_true rfl) ?_
  intro p e s m below meth c A ls C hnm hA hw hl
  have hx := C.1.1
  have hb := C.1.2.1
  have hl : lv_has ls 2 [(0, .ref (q 0))] := hl
  refine lv_aload_n hx hb d_EM_nextGroup_0 rfl (lv_at hl 0 rfl) ?_
  refine lv_iconst (v := 0) hx hb d_EM_nextGroup_1 (by decide) ?_
  refine em_put C hw rfl lk_EM_0 rfl rfl rfl (Nat.le_of_ble_eq_true rfl) (W1 := emW cI cZ q K V ord lf 0 w (S * w + w) fed r (fed - r * w) true fed current key value many sum least most) rfl d_EM_nextGroup_2 (fun H locs hw => ?_)
  refine lv_aload_n hx hb d_EM_nextGroup_5 rfl (lv_at hl 0 rfl) ?_
  refine em_get C hw rfl lk_EM_6 rfl d_EM_nextGroup_6 ?_
  refine zr_bne hx hb (tgt := 15) d_EM_nextGroup_9 (by decide) (fun h9 => ?_) (fun h9 => ?_)
  · refine lv_aload_n hx hb d_EM_nextGroup_15 rfl (lv_at hl 0 rfl) ?_
    refine em_get C hw rfl lk_EM_7 rfl d_EM_nextGroup_16 ?_
    refine lv_aload_n hx hb d_EM_nextGroup_19 rfl (lv_at hl 0 rfl) ?_
    refine em_get C hw rfl lk_EM_3 rfl d_EM_nextGroup_20 ?_
    refine zr_cne hx hb (by omega) (by omega) (tgt := 33) d_EM_nextGroup_23 (by decide) (fun h23 => ?_) (fun h23 => ?_)
    · exact absurd rfl h23
    · refine lv_aload_n hx hb d_EM_nextGroup_26 rfl (lv_at hl 0 rfl) ?_
      refine lv_iconst (v := 0) hx hb d_EM_nextGroup_27 (by decide) ?_
      refine em_put C hw rfl lk_EM_8 rfl rfl rfl (Nat.le_of_ble_eq_true rfl) (W1 := emW cI cZ q K V ord lf 0 w (S * w + w) fed r (fed - r * w) true fed 0 key value many sum least most) rfl d_EM_nextGroup_28 (fun H locs hw => ?_)
      refine lv_iconst (v := (-1)) hx hb d_EM_nextGroup_31 (by decide) ?_
      exact zr_iret C () (rfl) hw d_EM_nextGroup_32
  · exact absurd h9 (by decide)
set_option maxHeartbeats 4000000 in
set_option maxRecDepth 100000 in
theorem lp_EM_nextGroup {p : Program} {e : Env} {s : State} {m : MethodId} {args : Array Value} {below : List Frame} {meth : Method} {c : Code} {A : Nat → Prop} (C : Cx p m meth c b_EM_nextGroup 2 (some .int) s args R_EM) (hA : ∀ q : Nat, s.heap.size ≤ q → A q) {N : Nat} {l0 g0 : Int32} (hf : fed ≤ 2064) (ho : ∀ i, i < fed → ord i = ordf K fed i) : ∀ (f i : Nat) (H : Heap) (locs : List Loc) (ls : Array Slot), gone + i ≤ fed → fed ≤ gone + i + f → i + glen K (ordf K fed) fed (K (ordf K fed gone)) f (gone + i) = N → Wd D (tyL cI cZ cJ) A s H locs (emW cI cZ q K V ord lf 0 w (S * w + w) fed r (fed - r * w) true (gone + i) 2 (K (ordf K fed gone)) value (nI i) (gSum V (ordf K fed) gone i) (gLe V (ordf K fed) gone l0 i) (gGr V (ordf K fed) gone g0 i)) → lv_has ls 2 [(0, .ref (q 0))] → W p l e (rmF 0 0) s m args below meth c H locs 0 0 (MQ below (va_Qi (fun res (_ : Unit) => res = 2) (cB D (tyL cI cZ cJ) A (fun (_ : Unit) => emW cI cZ q K V ord lf 0 w (S * w + w) fed r (fed - r * w) true (gone + N) 2 (K (ordf K fed gone)) value (nI N) (gSum V (ordf K fed) gone N) (gLe V (ordf K fed) gone l0 N) (gGr V (ordf K fed) gone g0 N))) A) args s 0 0 A) (F0 m 66 ls []) := by
  have hx := C.1.1
  have hb := C.1.2.1
  intro f
  induction f with
  | zero =>
    intro i H locs ls hi hf2 hN hw hl
    refine lv_aload_n hx hb d_EM_nextGroup_66 rfl (lv_at hl 0 rfl) ?_
    refine em_get C hw rfl lk_EM_7 rfl d_EM_nextGroup_67 ?_
    refine lv_aload_n hx hb d_EM_nextGroup_70 rfl (lv_at hl 0 rfl) ?_
    refine em_get C hw rfl lk_EM_3 rfl d_EM_nextGroup_71 ?_
    refine zr_cge hx hb (by omega) (by omega) (tgt := 200) d_EM_nextGroup_74 (by decide) (fun h74 => ?_) (fun h74 => ?_)
    · have ei : i = N := by rw [glen_0 (by first | omega | exact (fun z => h95 z.2))] at hN; omega
      subst ei
      refine lv_iconst (v := 2) hx hb d_EM_nextGroup_200 (by decide) ?_
      exact zr_iret C () (rfl) hw d_EM_nextGroup_201
    · exact absurd h74 (by omega)
  | succ f ih =>
    intro i H locs ls hi hf2 hN hw hl
    refine lv_aload_n hx hb d_EM_nextGroup_66 rfl (lv_at hl 0 rfl) ?_
    refine em_get C hw rfl lk_EM_7 rfl d_EM_nextGroup_67 ?_
    refine lv_aload_n hx hb d_EM_nextGroup_70 rfl (lv_at hl 0 rfl) ?_
    refine em_get C hw rfl lk_EM_3 rfl d_EM_nextGroup_71 ?_
    refine zr_cge hx hb (by omega) (by omega) (tgt := 200) d_EM_nextGroup_74 (by decide) (fun h74 => ?_) (fun h74 => ?_)
    · have ei : i = N := by rw [glen_0 (by first | omega | exact (fun z => h95 z.2))] at hN; omega
      subst ei
      refine lv_iconst (v := 2) hx hb d_EM_nextGroup_200 (by decide) ?_
      exact zr_iret C () (rfl) hw d_EM_nextGroup_201
    · have hlt := ordf_lt (K := K) (n := fed) (by omega) h74
      refine lv_aload_n hx hb d_EM_nextGroup_77 rfl (lv_at hl 0 rfl) ?_
      refine em_get C hw rfl lk_EM_15 rfl d_EM_nextGroup_78 ?_
      refine lv_aload_n hx hb d_EM_nextGroup_81 rfl (lv_at hl 0 rfl) ?_
      refine em_get C hw rfl lk_EM_17 rfl d_EM_nextGroup_82 ?_
      refine lv_aload_n hx hb d_EM_nextGroup_85 rfl (lv_at hl 0 rfl) ?_
      refine em_get C hw rfl lk_EM_7 rfl d_EM_nextGroup_86 ?_
      refine zr_ald C hw 3 0 rfl rfl (by omega) (by omega) (v := nI (ord (gone + i))) rfl d_EM_nextGroup_89 ?_
      refine zr_top (y := nI (ordf K fed (gone + i))) (congrArg nI (ho _ (by omega))) ?_
      refine zr_ald C hw 1 0 rfl rfl (by omega) (by omega) (v := K (ordf K fed (gone + i))) rfl d_EM_nextGroup_90 ?_
      refine lv_aload_n hx hb d_EM_nextGroup_91 rfl (lv_at hl 0 rfl) ?_
      refine em_get C hw rfl lk_EM_9 rfl d_EM_nextGroup_92 ?_
      refine lv_icmp_ne (tgt := 200) hx hb d_EM_nextGroup_95 (by decide) (fun h95 => ?_) (fun h95 => ?_)
      · have ei : i = N := by rw [glen_0 (by first | omega | exact (fun z => h95 z.2))] at hN; omega
        subst ei
        refine lv_iconst (v := 2) hx hb d_EM_nextGroup_200 (by decide) ?_
        exact zr_iret C () (rfl) hw d_EM_nextGroup_201
      · refine lv_aload_n hx hb d_EM_nextGroup_98 rfl (lv_at hl 0 rfl) ?_
        refine em_get C hw rfl lk_EM_16 rfl d_EM_nextGroup_99 ?_
        refine lv_aload_n hx hb d_EM_nextGroup_102 rfl (lv_at hl 0 rfl) ?_
        refine em_get C hw rfl lk_EM_17 rfl d_EM_nextGroup_103 ?_
        refine lv_aload_n hx hb d_EM_nextGroup_106 rfl (lv_at hl 0 rfl) ?_
        refine em_get C hw rfl lk_EM_7 rfl d_EM_nextGroup_107 ?_
        refine zr_ald C hw 3 0 rfl rfl (by omega) (by omega) (v := nI (ord (gone + i))) rfl d_EM_nextGroup_110 ?_
        refine zr_top (y := nI (ordf K fed (gone + i))) (congrArg nI (ho _ (by omega))) ?_
        refine zr_ald C hw 2 0 rfl rfl (by omega) (by omega) (v := V (ordf K fed (gone + i))) rfl d_EM_nextGroup_111 ?_
        refine lv_istore_n (lv' := [(1, .int (V (ordf K fed (gone + i)))), (0, .ref (q 0))]) hx hb d_EM_nextGroup_112 rfl hl (by decide) rfl (fun ls hl => ?_)
        refine lv_aload_n hx hb d_EM_nextGroup_113 rfl (lv_at hl 1 rfl) ?_
        refine lv_aload_n hx hb d_EM_nextGroup_114 rfl (lv_at hl 1 rfl) ?_
        refine em_get C hw rfl lk_EM_11 rfl d_EM_nextGroup_115 ?_
        refine lv_if_eq (tgt := 129) hx hb d_EM_nextGroup_118 (by decide) (fun h118 => ?_) (fun h118 => ?_)
        · refine lv_iload_n hx hb d_EM_nextGroup_129 rfl (lv_at hl 0 rfl) ?_
          refine lv_goto (tgt := 137) hx hb d_EM_nextGroup_130 (by decide) ?_
          refine zr_top (y := gLe V (ordf K fed) gone l0 (i + 1)) (by first | exact gle_a (by omega) h118 | exact gle_b h118 h126 | exact gle_c h118 h126) ?_
          refine em_put C hw rfl lk_EM_13 rfl rfl rfl (Nat.le_of_ble_eq_true rfl) (W1 := emW cI cZ q K V ord lf 0 w (S * w + w) fed r (fed - r * w) true (gone + i) 2 (K (ordf K fed gone)) value (nI i) (gSum V (ordf K fed) gone i) (gLe V (ordf K fed) gone l0 (i + 1)) (gGr V (ordf K fed) gone g0 i)) rfl d_EM_nextGroup_137 (fun H locs hw => ?_)
          refine lv_aload_n hx hb d_EM_nextGroup_140 rfl (lv_at hl 1 rfl) ?_
          refine lv_aload_n hx hb d_EM_nextGroup_141 rfl (lv_at hl 1 rfl) ?_
          refine em_get C hw rfl lk_EM_11 rfl d_EM_nextGroup_142 ?_
          refine lv_if_eq (tgt := 156) hx hb d_EM_nextGroup_145 (by decide) (fun h145 => ?_) (fun h145 => ?_)
          · refine lv_iload_n hx hb d_EM_nextGroup_156 rfl (lv_at hl 0 rfl) ?_
            refine lv_goto (tgt := 164) hx hb d_EM_nextGroup_157 (by decide) ?_
            refine zr_top (y := gGr V (ordf K fed) gone g0 (i + 1)) (by first | exact ggr_a (by omega) h145 | exact ggr_b h145 h153 | exact ggr_c h145 h153) ?_
            refine em_put C hw rfl lk_EM_14 rfl rfl rfl (Nat.le_of_ble_eq_true rfl) (W1 := emW cI cZ q K V ord lf 0 w (S * w + w) fed r (fed - r * w) true (gone + i) 2 (K (ordf K fed gone)) value (nI i) (gSum V (ordf K fed) gone i) (gLe V (ordf K fed) gone l0 (i + 1)) (gGr V (ordf K fed) gone g0 (i + 1))) rfl d_EM_nextGroup_164 (fun H locs hw => ?_)
            refine lv_aload_n hx hb d_EM_nextGroup_167 rfl (lv_at hl 1 rfl) ?_
            refine lv_aload_n hx hb d_EM_nextGroup_168 rfl (lv_at hl 1 rfl) ?_
            refine em_get C hw rfl lk_EM_12 rfl d_EM_nextGroup_169 ?_
            refine lv_iload_n hx hb d_EM_nextGroup_172 rfl (lv_at hl 0 rfl) ?_
            refine lv_iadd hx hb d_EM_nextGroup_173 ?_
            refine zr_top (y := gSum V (ordf K fed) gone (i + 1)) rfl ?_
            refine em_put C hw rfl lk_EM_12 rfl rfl rfl (Nat.le_of_ble_eq_true rfl) (W1 := emW cI cZ q K V ord lf 0 w (S * w + w) fed r (fed - r * w) true (gone + i) 2 (K (ordf K fed gone)) value (nI i) (gSum V (ordf K fed) gone (i + 1)) (gLe V (ordf K fed) gone l0 (i + 1)) (gGr V (ordf K fed) gone g0 (i + 1))) rfl d_EM_nextGroup_174 (fun H locs hw => ?_)
            refine lv_aload_n hx hb d_EM_nextGroup_177 rfl (lv_at hl 1 rfl) ?_
            refine lv_dup hx hb d_EM_nextGroup_178 rfl ?_
            refine em_get C hw rfl lk_EM_11 rfl d_EM_nextGroup_179 ?_
            refine lv_iconst (v := nI 1) hx hb d_EM_nextGroup_182 (by decide) ?_
            refine lv_iadd hx hb d_EM_nextGroup_183 ?_
            refine zr_top (y := nI (i + 1)) (nI_add i 1) ?_
            refine em_put C hw rfl lk_EM_11 rfl rfl rfl (Nat.le_of_ble_eq_true rfl) (W1 := emW cI cZ q K V ord lf 0 w (S * w + w) fed r (fed - r * w) true (gone + i) 2 (K (ordf K fed gone)) value (nI (i + 1)) (gSum V (ordf K fed) gone (i + 1)) (gLe V (ordf K fed) gone l0 (i + 1)) (gGr V (ordf K fed) gone g0 (i + 1))) rfl d_EM_nextGroup_184 (fun H locs hw => ?_)
            refine lv_aload_n hx hb d_EM_nextGroup_187 rfl (lv_at hl 1 rfl) ?_
            refine lv_dup hx hb d_EM_nextGroup_188 rfl ?_
            refine em_get C hw rfl lk_EM_7 rfl d_EM_nextGroup_189 ?_
            refine lv_iconst (v := nI 1) hx hb d_EM_nextGroup_192 (by decide) ?_
            refine zr_add hx hb d_EM_nextGroup_193 ?_
            refine zr_top (y := nI (gone + (i + 1))) rfl ?_
            refine em_put C hw rfl lk_EM_7 rfl rfl rfl (Nat.le_of_ble_eq_true rfl) (W1 := emW cI cZ q K V ord lf 0 w (S * w + w) fed r (fed - r * w) true (gone + (i + 1)) 2 (K (ordf K fed gone)) value (nI (i + 1)) (gSum V (ordf K fed) gone (i + 1)) (gLe V (ordf K fed) gone l0 (i + 1)) (gGr V (ordf K fed) gone g0 (i + 1))) rfl d_EM_nextGroup_194 (fun H locs hw => ?_)
            refine lv_goto (tgt := 66) hx hb d_EM_nextGroup_197 (by decide) ?_
            exact ih (i + 1) H locs ls (by omega) (by omega) (by rw [glen_1 h74 h95] at hN; rw [← hN, Nat.add_assoc gone i 1]; omega) hw (lv_sub hl [1] rfl)
          · refine lv_iload_n hx hb d_EM_nextGroup_148 rfl (lv_at hl 0 rfl) ?_
            refine lv_aload_n hx hb d_EM_nextGroup_149 rfl (lv_at hl 1 rfl) ?_
            refine em_get C hw rfl lk_EM_14 rfl d_EM_nextGroup_150 ?_
            refine lv_icmp_le (tgt := 160) hx hb d_EM_nextGroup_153 (by decide) (fun h153 => ?_) (fun h153 => ?_)
            · refine lv_aload_n hx hb d_EM_nextGroup_160 rfl (lv_at hl 1 rfl) ?_
              refine em_get C hw rfl lk_EM_14 rfl d_EM_nextGroup_161 ?_
              refine zr_top (y := gGr V (ordf K fed) gone g0 (i + 1)) (by first | exact ggr_a (by omega) h145 | exact ggr_b h145 h153 | exact ggr_c h145 h153) ?_
              refine em_put C hw rfl lk_EM_14 rfl rfl rfl (Nat.le_of_ble_eq_true rfl) (W1 := emW cI cZ q K V ord lf 0 w (S * w + w) fed r (fed - r * w) true (gone + i) 2 (K (ordf K fed gone)) value (nI i) (gSum V (ordf K fed) gone i) (gLe V (ordf K fed) gone l0 (i + 1)) (gGr V (ordf K fed) gone g0 (i + 1))) rfl d_EM_nextGroup_164 (fun H locs hw => ?_)
              refine lv_aload_n hx hb d_EM_nextGroup_167 rfl (lv_at hl 1 rfl) ?_
              refine lv_aload_n hx hb d_EM_nextGroup_168 rfl (lv_at hl 1 rfl) ?_
              refine em_get C hw rfl lk_EM_12 rfl d_EM_nextGroup_169 ?_
              refine lv_iload_n hx hb d_EM_nextGroup_172 rfl (lv_at hl 0 rfl) ?_
              refine lv_iadd hx hb d_EM_nextGroup_173 ?_
              refine zr_top (y := gSum V (ordf K fed) gone (i + 1)) rfl ?_
              refine em_put C hw rfl lk_EM_12 rfl rfl rfl (Nat.le_of_ble_eq_true rfl) (W1 := emW cI cZ q K V ord lf 0 w (S * w + w) fed r (fed - r * w) true (gone + i) 2 (K (ordf K fed gone)) value (nI i) (gSum V (ordf K fed) gone (i + 1)) (gLe V (ordf K fed) gone l0 (i + 1)) (gGr V (ordf K fed) gone g0 (i + 1))) rfl d_EM_nextGroup_174 (fun H locs hw => ?_)
              refine lv_aload_n hx hb d_EM_nextGroup_177 rfl (lv_at hl 1 rfl) ?_
              refine lv_dup hx hb d_EM_nextGroup_178 rfl ?_
              refine em_get C hw rfl lk_EM_11 rfl d_EM_nextGroup_179 ?_
              refine lv_iconst (v := nI 1) hx hb d_EM_nextGroup_182 (by decide) ?_
              refine lv_iadd hx hb d_EM_nextGroup_183 ?_
              refine zr_top (y := nI (i + 1)) (nI_add i 1) ?_
              refine em_put C hw rfl lk_EM_11 rfl rfl rfl (Nat.le_of_ble_eq_true rfl) (W1 := emW cI cZ q K V ord lf 0 w (S * w + w) fed r (fed - r * w) true (gone + i) 2 (K (ordf K fed gone)) value (nI (i + 1)) (gSum V (ordf K fed) gone (i + 1)) (gLe V (ordf K fed) gone l0 (i + 1)) (gGr V (ordf K fed) gone g0 (i + 1))) rfl d_EM_nextGroup_184 (fun H locs hw => ?_)
              refine lv_aload_n hx hb d_EM_nextGroup_187 rfl (lv_at hl 1 rfl) ?_
              refine lv_dup hx hb d_EM_nextGroup_188 rfl ?_
              refine em_get C hw rfl lk_EM_7 rfl d_EM_nextGroup_189 ?_
              refine lv_iconst (v := nI 1) hx hb d_EM_nextGroup_192 (by decide) ?_
              refine zr_add hx hb d_EM_nextGroup_193 ?_
              refine zr_top (y := nI (gone + (i + 1))) rfl ?_
              refine em_put C hw rfl lk_EM_7 rfl rfl rfl (Nat.le_of_ble_eq_true rfl) (W1 := emW cI cZ q K V ord lf 0 w (S * w + w) fed r (fed - r * w) true (gone + (i + 1)) 2 (K (ordf K fed gone)) value (nI (i + 1)) (gSum V (ordf K fed) gone (i + 1)) (gLe V (ordf K fed) gone l0 (i + 1)) (gGr V (ordf K fed) gone g0 (i + 1))) rfl d_EM_nextGroup_194 (fun H locs hw => ?_)
              refine lv_goto (tgt := 66) hx hb d_EM_nextGroup_197 (by decide) ?_
              exact ih (i + 1) H locs ls (by omega) (by omega) (by rw [glen_1 h74 h95] at hN; rw [← hN, Nat.add_assoc gone i 1]; omega) hw (lv_sub hl [1] rfl)
            · refine lv_iload_n hx hb d_EM_nextGroup_156 rfl (lv_at hl 0 rfl) ?_
              refine lv_goto (tgt := 164) hx hb d_EM_nextGroup_157 (by decide) ?_
              refine zr_top (y := gGr V (ordf K fed) gone g0 (i + 1)) (by first | exact ggr_a (by omega) h145 | exact ggr_b h145 h153 | exact ggr_c h145 h153) ?_
              refine em_put C hw rfl lk_EM_14 rfl rfl rfl (Nat.le_of_ble_eq_true rfl) (W1 := emW cI cZ q K V ord lf 0 w (S * w + w) fed r (fed - r * w) true (gone + i) 2 (K (ordf K fed gone)) value (nI i) (gSum V (ordf K fed) gone i) (gLe V (ordf K fed) gone l0 (i + 1)) (gGr V (ordf K fed) gone g0 (i + 1))) rfl d_EM_nextGroup_164 (fun H locs hw => ?_)
              refine lv_aload_n hx hb d_EM_nextGroup_167 rfl (lv_at hl 1 rfl) ?_
              refine lv_aload_n hx hb d_EM_nextGroup_168 rfl (lv_at hl 1 rfl) ?_
              refine em_get C hw rfl lk_EM_12 rfl d_EM_nextGroup_169 ?_
              refine lv_iload_n hx hb d_EM_nextGroup_172 rfl (lv_at hl 0 rfl) ?_
              refine lv_iadd hx hb d_EM_nextGroup_173 ?_
              refine zr_top (y := gSum V (ordf K fed) gone (i + 1)) rfl ?_
              refine em_put C hw rfl lk_EM_12 rfl rfl rfl (Nat.le_of_ble_eq_true rfl) (W1 := emW cI cZ q K V ord lf 0 w (S * w + w) fed r (fed - r * w) true (gone + i) 2 (K (ordf K fed gone)) value (nI i) (gSum V (ordf K fed) gone (i + 1)) (gLe V (ordf K fed) gone l0 (i + 1)) (gGr V (ordf K fed) gone g0 (i + 1))) rfl d_EM_nextGroup_174 (fun H locs hw => ?_)
              refine lv_aload_n hx hb d_EM_nextGroup_177 rfl (lv_at hl 1 rfl) ?_
              refine lv_dup hx hb d_EM_nextGroup_178 rfl ?_
              refine em_get C hw rfl lk_EM_11 rfl d_EM_nextGroup_179 ?_
              refine lv_iconst (v := nI 1) hx hb d_EM_nextGroup_182 (by decide) ?_
              refine lv_iadd hx hb d_EM_nextGroup_183 ?_
              refine zr_top (y := nI (i + 1)) (nI_add i 1) ?_
              refine em_put C hw rfl lk_EM_11 rfl rfl rfl (Nat.le_of_ble_eq_true rfl) (W1 := emW cI cZ q K V ord lf 0 w (S * w + w) fed r (fed - r * w) true (gone + i) 2 (K (ordf K fed gone)) value (nI (i + 1)) (gSum V (ordf K fed) gone (i + 1)) (gLe V (ordf K fed) gone l0 (i + 1)) (gGr V (ordf K fed) gone g0 (i + 1))) rfl d_EM_nextGroup_184 (fun H locs hw => ?_)
              refine lv_aload_n hx hb d_EM_nextGroup_187 rfl (lv_at hl 1 rfl) ?_
              refine lv_dup hx hb d_EM_nextGroup_188 rfl ?_
              refine em_get C hw rfl lk_EM_7 rfl d_EM_nextGroup_189 ?_
              refine lv_iconst (v := nI 1) hx hb d_EM_nextGroup_192 (by decide) ?_
              refine zr_add hx hb d_EM_nextGroup_193 ?_
              refine zr_top (y := nI (gone + (i + 1))) rfl ?_
              refine em_put C hw rfl lk_EM_7 rfl rfl rfl (Nat.le_of_ble_eq_true rfl) (W1 := emW cI cZ q K V ord lf 0 w (S * w + w) fed r (fed - r * w) true (gone + (i + 1)) 2 (K (ordf K fed gone)) value (nI (i + 1)) (gSum V (ordf K fed) gone (i + 1)) (gLe V (ordf K fed) gone l0 (i + 1)) (gGr V (ordf K fed) gone g0 (i + 1))) rfl d_EM_nextGroup_194 (fun H locs hw => ?_)
              refine lv_goto (tgt := 66) hx hb d_EM_nextGroup_197 (by decide) ?_
              exact ih (i + 1) H locs ls (by omega) (by omega) (by rw [glen_1 h74 h95] at hN; rw [← hN, Nat.add_assoc gone i 1]; omega) hw (lv_sub hl [1] rfl)
        · refine lv_iload_n hx hb d_EM_nextGroup_121 rfl (lv_at hl 0 rfl) ?_
          refine lv_aload_n hx hb d_EM_nextGroup_122 rfl (lv_at hl 1 rfl) ?_
          refine em_get C hw rfl lk_EM_13 rfl d_EM_nextGroup_123 ?_
          refine lv_icmp_ge (tgt := 133) hx hb d_EM_nextGroup_126 (by decide) (fun h126 => ?_) (fun h126 => ?_)
          · refine lv_aload_n hx hb d_EM_nextGroup_133 rfl (lv_at hl 1 rfl) ?_
            refine em_get C hw rfl lk_EM_13 rfl d_EM_nextGroup_134 ?_
            refine zr_top (y := gLe V (ordf K fed) gone l0 (i + 1)) (by first | exact gle_a (by omega) h118 | exact gle_b h118 h126 | exact gle_c h118 h126) ?_
            refine em_put C hw rfl lk_EM_13 rfl rfl rfl (Nat.le_of_ble_eq_true rfl) (W1 := emW cI cZ q K V ord lf 0 w (S * w + w) fed r (fed - r * w) true (gone + i) 2 (K (ordf K fed gone)) value (nI i) (gSum V (ordf K fed) gone i) (gLe V (ordf K fed) gone l0 (i + 1)) (gGr V (ordf K fed) gone g0 i)) rfl d_EM_nextGroup_137 (fun H locs hw => ?_)
            refine lv_aload_n hx hb d_EM_nextGroup_140 rfl (lv_at hl 1 rfl) ?_
            refine lv_aload_n hx hb d_EM_nextGroup_141 rfl (lv_at hl 1 rfl) ?_
            refine em_get C hw rfl lk_EM_11 rfl d_EM_nextGroup_142 ?_
            refine lv_if_eq (tgt := 156) hx hb d_EM_nextGroup_145 (by decide) (fun h145 => ?_) (fun h145 => ?_)
            · refine lv_iload_n hx hb d_EM_nextGroup_156 rfl (lv_at hl 0 rfl) ?_
              refine lv_goto (tgt := 164) hx hb d_EM_nextGroup_157 (by decide) ?_
              refine zr_top (y := gGr V (ordf K fed) gone g0 (i + 1)) (by first | exact ggr_a (by omega) h145 | exact ggr_b h145 h153 | exact ggr_c h145 h153) ?_
              refine em_put C hw rfl lk_EM_14 rfl rfl rfl (Nat.le_of_ble_eq_true rfl) (W1 := emW cI cZ q K V ord lf 0 w (S * w + w) fed r (fed - r * w) true (gone + i) 2 (K (ordf K fed gone)) value (nI i) (gSum V (ordf K fed) gone i) (gLe V (ordf K fed) gone l0 (i + 1)) (gGr V (ordf K fed) gone g0 (i + 1))) rfl d_EM_nextGroup_164 (fun H locs hw => ?_)
              refine lv_aload_n hx hb d_EM_nextGroup_167 rfl (lv_at hl 1 rfl) ?_
              refine lv_aload_n hx hb d_EM_nextGroup_168 rfl (lv_at hl 1 rfl) ?_
              refine em_get C hw rfl lk_EM_12 rfl d_EM_nextGroup_169 ?_
              refine lv_iload_n hx hb d_EM_nextGroup_172 rfl (lv_at hl 0 rfl) ?_
              refine lv_iadd hx hb d_EM_nextGroup_173 ?_
              refine zr_top (y := gSum V (ordf K fed) gone (i + 1)) rfl ?_
              refine em_put C hw rfl lk_EM_12 rfl rfl rfl (Nat.le_of_ble_eq_true rfl) (W1 := emW cI cZ q K V ord lf 0 w (S * w + w) fed r (fed - r * w) true (gone + i) 2 (K (ordf K fed gone)) value (nI i) (gSum V (ordf K fed) gone (i + 1)) (gLe V (ordf K fed) gone l0 (i + 1)) (gGr V (ordf K fed) gone g0 (i + 1))) rfl d_EM_nextGroup_174 (fun H locs hw => ?_)
              refine lv_aload_n hx hb d_EM_nextGroup_177 rfl (lv_at hl 1 rfl) ?_
              refine lv_dup hx hb d_EM_nextGroup_178 rfl ?_
              refine em_get C hw rfl lk_EM_11 rfl d_EM_nextGroup_179 ?_
              refine lv_iconst (v := nI 1) hx hb d_EM_nextGroup_182 (by decide) ?_
              refine lv_iadd hx hb d_EM_nextGroup_183 ?_
              refine zr_top (y := nI (i + 1)) (nI_add i 1) ?_
              refine em_put C hw rfl lk_EM_11 rfl rfl rfl (Nat.le_of_ble_eq_true rfl) (W1 := emW cI cZ q K V ord lf 0 w (S * w + w) fed r (fed - r * w) true (gone + i) 2 (K (ordf K fed gone)) value (nI (i + 1)) (gSum V (ordf K fed) gone (i + 1)) (gLe V (ordf K fed) gone l0 (i + 1)) (gGr V (ordf K fed) gone g0 (i + 1))) rfl d_EM_nextGroup_184 (fun H locs hw => ?_)
              refine lv_aload_n hx hb d_EM_nextGroup_187 rfl (lv_at hl 1 rfl) ?_
              refine lv_dup hx hb d_EM_nextGroup_188 rfl ?_
              refine em_get C hw rfl lk_EM_7 rfl d_EM_nextGroup_189 ?_
              refine lv_iconst (v := nI 1) hx hb d_EM_nextGroup_192 (by decide) ?_
              refine zr_add hx hb d_EM_nextGroup_193 ?_
              refine zr_top (y := nI (gone + (i + 1))) rfl ?_
              refine em_put C hw rfl lk_EM_7 rfl rfl rfl (Nat.le_of_ble_eq_true rfl) (W1 := emW cI cZ q K V ord lf 0 w (S * w + w) fed r (fed - r * w) true (gone + (i + 1)) 2 (K (ordf K fed gone)) value (nI (i + 1)) (gSum V (ordf K fed) gone (i + 1)) (gLe V (ordf K fed) gone l0 (i + 1)) (gGr V (ordf K fed) gone g0 (i + 1))) rfl d_EM_nextGroup_194 (fun H locs hw => ?_)
              refine lv_goto (tgt := 66) hx hb d_EM_nextGroup_197 (by decide) ?_
              exact ih (i + 1) H locs ls (by omega) (by omega) (by rw [glen_1 h74 h95] at hN; rw [← hN, Nat.add_assoc gone i 1]; omega) hw (lv_sub hl [1] rfl)
            · refine lv_iload_n hx hb d_EM_nextGroup_148 rfl (lv_at hl 0 rfl) ?_
              refine lv_aload_n hx hb d_EM_nextGroup_149 rfl (lv_at hl 1 rfl) ?_
              refine em_get C hw rfl lk_EM_14 rfl d_EM_nextGroup_150 ?_
              refine lv_icmp_le (tgt := 160) hx hb d_EM_nextGroup_153 (by decide) (fun h153 => ?_) (fun h153 => ?_)
              · refine lv_aload_n hx hb d_EM_nextGroup_160 rfl (lv_at hl 1 rfl) ?_
                refine em_get C hw rfl lk_EM_14 rfl d_EM_nextGroup_161 ?_
                refine zr_top (y := gGr V (ordf K fed) gone g0 (i + 1)) (by first | exact ggr_a (by omega) h145 | exact ggr_b h145 h153 | exact ggr_c h145 h153) ?_
                refine em_put C hw rfl lk_EM_14 rfl rfl rfl (Nat.le_of_ble_eq_true rfl) (W1 := emW cI cZ q K V ord lf 0 w (S * w + w) fed r (fed - r * w) true (gone + i) 2 (K (ordf K fed gone)) value (nI i) (gSum V (ordf K fed) gone i) (gLe V (ordf K fed) gone l0 (i + 1)) (gGr V (ordf K fed) gone g0 (i + 1))) rfl d_EM_nextGroup_164 (fun H locs hw => ?_)
                refine lv_aload_n hx hb d_EM_nextGroup_167 rfl (lv_at hl 1 rfl) ?_
                refine lv_aload_n hx hb d_EM_nextGroup_168 rfl (lv_at hl 1 rfl) ?_
                refine em_get C hw rfl lk_EM_12 rfl d_EM_nextGroup_169 ?_
                refine lv_iload_n hx hb d_EM_nextGroup_172 rfl (lv_at hl 0 rfl) ?_
                refine lv_iadd hx hb d_EM_nextGroup_173 ?_
                refine zr_top (y := gSum V (ordf K fed) gone (i + 1)) rfl ?_
                refine em_put C hw rfl lk_EM_12 rfl rfl rfl (Nat.le_of_ble_eq_true rfl) (W1 := emW cI cZ q K V ord lf 0 w (S * w + w) fed r (fed - r * w) true (gone + i) 2 (K (ordf K fed gone)) value (nI i) (gSum V (ordf K fed) gone (i + 1)) (gLe V (ordf K fed) gone l0 (i + 1)) (gGr V (ordf K fed) gone g0 (i + 1))) rfl d_EM_nextGroup_174 (fun H locs hw => ?_)
                refine lv_aload_n hx hb d_EM_nextGroup_177 rfl (lv_at hl 1 rfl) ?_
                refine lv_dup hx hb d_EM_nextGroup_178 rfl ?_
                refine em_get C hw rfl lk_EM_11 rfl d_EM_nextGroup_179 ?_
                refine lv_iconst (v := nI 1) hx hb d_EM_nextGroup_182 (by decide) ?_
                refine lv_iadd hx hb d_EM_nextGroup_183 ?_
                refine zr_top (y := nI (i + 1)) (nI_add i 1) ?_
                refine em_put C hw rfl lk_EM_11 rfl rfl rfl (Nat.le_of_ble_eq_true rfl) (W1 := emW cI cZ q K V ord lf 0 w (S * w + w) fed r (fed - r * w) true (gone + i) 2 (K (ordf K fed gone)) value (nI (i + 1)) (gSum V (ordf K fed) gone (i + 1)) (gLe V (ordf K fed) gone l0 (i + 1)) (gGr V (ordf K fed) gone g0 (i + 1))) rfl d_EM_nextGroup_184 (fun H locs hw => ?_)
                refine lv_aload_n hx hb d_EM_nextGroup_187 rfl (lv_at hl 1 rfl) ?_
                refine lv_dup hx hb d_EM_nextGroup_188 rfl ?_
                refine em_get C hw rfl lk_EM_7 rfl d_EM_nextGroup_189 ?_
                refine lv_iconst (v := nI 1) hx hb d_EM_nextGroup_192 (by decide) ?_
                refine zr_add hx hb d_EM_nextGroup_193 ?_
                refine zr_top (y := nI (gone + (i + 1))) rfl ?_
                refine em_put C hw rfl lk_EM_7 rfl rfl rfl (Nat.le_of_ble_eq_true rfl) (W1 := emW cI cZ q K V ord lf 0 w (S * w + w) fed r (fed - r * w) true (gone + (i + 1)) 2 (K (ordf K fed gone)) value (nI (i + 1)) (gSum V (ordf K fed) gone (i + 1)) (gLe V (ordf K fed) gone l0 (i + 1)) (gGr V (ordf K fed) gone g0 (i + 1))) rfl d_EM_nextGroup_194 (fun H locs hw => ?_)
                refine lv_goto (tgt := 66) hx hb d_EM_nextGroup_197 (by decide) ?_
                exact ih (i + 1) H locs ls (by omega) (by omega) (by rw [glen_1 h74 h95] at hN; rw [← hN, Nat.add_assoc gone i 1]; omega) hw (lv_sub hl [1] rfl)
              · refine lv_iload_n hx hb d_EM_nextGroup_156 rfl (lv_at hl 0 rfl) ?_
                refine lv_goto (tgt := 164) hx hb d_EM_nextGroup_157 (by decide) ?_
                refine zr_top (y := gGr V (ordf K fed) gone g0 (i + 1)) (by first | exact ggr_a (by omega) h145 | exact ggr_b h145 h153 | exact ggr_c h145 h153) ?_
                refine em_put C hw rfl lk_EM_14 rfl rfl rfl (Nat.le_of_ble_eq_true rfl) (W1 := emW cI cZ q K V ord lf 0 w (S * w + w) fed r (fed - r * w) true (gone + i) 2 (K (ordf K fed gone)) value (nI i) (gSum V (ordf K fed) gone i) (gLe V (ordf K fed) gone l0 (i + 1)) (gGr V (ordf K fed) gone g0 (i + 1))) rfl d_EM_nextGroup_164 (fun H locs hw => ?_)
                refine lv_aload_n hx hb d_EM_nextGroup_167 rfl (lv_at hl 1 rfl) ?_
                refine lv_aload_n hx hb d_EM_nextGroup_168 rfl (lv_at hl 1 rfl) ?_
                refine em_get C hw rfl lk_EM_12 rfl d_EM_nextGroup_169 ?_
                refine lv_iload_n hx hb d_EM_nextGroup_172 rfl (lv_at hl 0 rfl) ?_
                refine lv_iadd hx hb d_EM_nextGroup_173 ?_
                refine zr_top (y := gSum V (ordf K fed) gone (i + 1)) rfl ?_
                refine em_put C hw rfl lk_EM_12 rfl rfl rfl (Nat.le_of_ble_eq_true rfl) (W1 := emW cI cZ q K V ord lf 0 w (S * w + w) fed r (fed - r * w) true (gone + i) 2 (K (ordf K fed gone)) value (nI i) (gSum V (ordf K fed) gone (i + 1)) (gLe V (ordf K fed) gone l0 (i + 1)) (gGr V (ordf K fed) gone g0 (i + 1))) rfl d_EM_nextGroup_174 (fun H locs hw => ?_)
                refine lv_aload_n hx hb d_EM_nextGroup_177 rfl (lv_at hl 1 rfl) ?_
                refine lv_dup hx hb d_EM_nextGroup_178 rfl ?_
                refine em_get C hw rfl lk_EM_11 rfl d_EM_nextGroup_179 ?_
                refine lv_iconst (v := nI 1) hx hb d_EM_nextGroup_182 (by decide) ?_
                refine lv_iadd hx hb d_EM_nextGroup_183 ?_
                refine zr_top (y := nI (i + 1)) (nI_add i 1) ?_
                refine em_put C hw rfl lk_EM_11 rfl rfl rfl (Nat.le_of_ble_eq_true rfl) (W1 := emW cI cZ q K V ord lf 0 w (S * w + w) fed r (fed - r * w) true (gone + i) 2 (K (ordf K fed gone)) value (nI (i + 1)) (gSum V (ordf K fed) gone (i + 1)) (gLe V (ordf K fed) gone l0 (i + 1)) (gGr V (ordf K fed) gone g0 (i + 1))) rfl d_EM_nextGroup_184 (fun H locs hw => ?_)
                refine lv_aload_n hx hb d_EM_nextGroup_187 rfl (lv_at hl 1 rfl) ?_
                refine lv_dup hx hb d_EM_nextGroup_188 rfl ?_
                refine em_get C hw rfl lk_EM_7 rfl d_EM_nextGroup_189 ?_
                refine lv_iconst (v := nI 1) hx hb d_EM_nextGroup_192 (by decide) ?_
                refine zr_add hx hb d_EM_nextGroup_193 ?_
                refine zr_top (y := nI (gone + (i + 1))) rfl ?_
                refine em_put C hw rfl lk_EM_7 rfl rfl rfl (Nat.le_of_ble_eq_true rfl) (W1 := emW cI cZ q K V ord lf 0 w (S * w + w) fed r (fed - r * w) true (gone + (i + 1)) 2 (K (ordf K fed gone)) value (nI (i + 1)) (gSum V (ordf K fed) gone (i + 1)) (gLe V (ordf K fed) gone l0 (i + 1)) (gGr V (ordf K fed) gone g0 (i + 1))) rfl d_EM_nextGroup_194 (fun H locs hw => ?_)
                refine lv_goto (tgt := 66) hx hb d_EM_nextGroup_197 (by decide) ?_
                exact ih (i + 1) H locs ls (by omega) (by omega) (by rw [glen_1 h74 h95] at hN; rw [← hN, Nat.add_assoc gone i 1]; omega) hw (lv_sub hl [1] rfl)
          · refine lv_iload_n hx hb d_EM_nextGroup_129 rfl (lv_at hl 0 rfl) ?_
            refine lv_goto (tgt := 137) hx hb d_EM_nextGroup_130 (by decide) ?_
            refine zr_top (y := gLe V (ordf K fed) gone l0 (i + 1)) (by first | exact gle_a (by omega) h118 | exact gle_b h118 h126 | exact gle_c h118 h126) ?_
            refine em_put C hw rfl lk_EM_13 rfl rfl rfl (Nat.le_of_ble_eq_true rfl) (W1 := emW cI cZ q K V ord lf 0 w (S * w + w) fed r (fed - r * w) true (gone + i) 2 (K (ordf K fed gone)) value (nI i) (gSum V (ordf K fed) gone i) (gLe V (ordf K fed) gone l0 (i + 1)) (gGr V (ordf K fed) gone g0 i)) rfl d_EM_nextGroup_137 (fun H locs hw => ?_)
            refine lv_aload_n hx hb d_EM_nextGroup_140 rfl (lv_at hl 1 rfl) ?_
            refine lv_aload_n hx hb d_EM_nextGroup_141 rfl (lv_at hl 1 rfl) ?_
            refine em_get C hw rfl lk_EM_11 rfl d_EM_nextGroup_142 ?_
            refine lv_if_eq (tgt := 156) hx hb d_EM_nextGroup_145 (by decide) (fun h145 => ?_) (fun h145 => ?_)
            · refine lv_iload_n hx hb d_EM_nextGroup_156 rfl (lv_at hl 0 rfl) ?_
              refine lv_goto (tgt := 164) hx hb d_EM_nextGroup_157 (by decide) ?_
              refine zr_top (y := gGr V (ordf K fed) gone g0 (i + 1)) (by first | exact ggr_a (by omega) h145 | exact ggr_b h145 h153 | exact ggr_c h145 h153) ?_
              refine em_put C hw rfl lk_EM_14 rfl rfl rfl (Nat.le_of_ble_eq_true rfl) (W1 := emW cI cZ q K V ord lf 0 w (S * w + w) fed r (fed - r * w) true (gone + i) 2 (K (ordf K fed gone)) value (nI i) (gSum V (ordf K fed) gone i) (gLe V (ordf K fed) gone l0 (i + 1)) (gGr V (ordf K fed) gone g0 (i + 1))) rfl d_EM_nextGroup_164 (fun H locs hw => ?_)
              refine lv_aload_n hx hb d_EM_nextGroup_167 rfl (lv_at hl 1 rfl) ?_
              refine lv_aload_n hx hb d_EM_nextGroup_168 rfl (lv_at hl 1 rfl) ?_
              refine em_get C hw rfl lk_EM_12 rfl d_EM_nextGroup_169 ?_
              refine lv_iload_n hx hb d_EM_nextGroup_172 rfl (lv_at hl 0 rfl) ?_
              refine lv_iadd hx hb d_EM_nextGroup_173 ?_
              refine zr_top (y := gSum V (ordf K fed) gone (i + 1)) rfl ?_
              refine em_put C hw rfl lk_EM_12 rfl rfl rfl (Nat.le_of_ble_eq_true rfl) (W1 := emW cI cZ q K V ord lf 0 w (S * w + w) fed r (fed - r * w) true (gone + i) 2 (K (ordf K fed gone)) value (nI i) (gSum V (ordf K fed) gone (i + 1)) (gLe V (ordf K fed) gone l0 (i + 1)) (gGr V (ordf K fed) gone g0 (i + 1))) rfl d_EM_nextGroup_174 (fun H locs hw => ?_)
              refine lv_aload_n hx hb d_EM_nextGroup_177 rfl (lv_at hl 1 rfl) ?_
              refine lv_dup hx hb d_EM_nextGroup_178 rfl ?_
              refine em_get C hw rfl lk_EM_11 rfl d_EM_nextGroup_179 ?_
              refine lv_iconst (v := nI 1) hx hb d_EM_nextGroup_182 (by decide) ?_
              refine lv_iadd hx hb d_EM_nextGroup_183 ?_
              refine zr_top (y := nI (i + 1)) (nI_add i 1) ?_
              refine em_put C hw rfl lk_EM_11 rfl rfl rfl (Nat.le_of_ble_eq_true rfl) (W1 := emW cI cZ q K V ord lf 0 w (S * w + w) fed r (fed - r * w) true (gone + i) 2 (K (ordf K fed gone)) value (nI (i + 1)) (gSum V (ordf K fed) gone (i + 1)) (gLe V (ordf K fed) gone l0 (i + 1)) (gGr V (ordf K fed) gone g0 (i + 1))) rfl d_EM_nextGroup_184 (fun H locs hw => ?_)
              refine lv_aload_n hx hb d_EM_nextGroup_187 rfl (lv_at hl 1 rfl) ?_
              refine lv_dup hx hb d_EM_nextGroup_188 rfl ?_
              refine em_get C hw rfl lk_EM_7 rfl d_EM_nextGroup_189 ?_
              refine lv_iconst (v := nI 1) hx hb d_EM_nextGroup_192 (by decide) ?_
              refine zr_add hx hb d_EM_nextGroup_193 ?_
              refine zr_top (y := nI (gone + (i + 1))) rfl ?_
              refine em_put C hw rfl lk_EM_7 rfl rfl rfl (Nat.le_of_ble_eq_true rfl) (W1 := emW cI cZ q K V ord lf 0 w (S * w + w) fed r (fed - r * w) true (gone + (i + 1)) 2 (K (ordf K fed gone)) value (nI (i + 1)) (gSum V (ordf K fed) gone (i + 1)) (gLe V (ordf K fed) gone l0 (i + 1)) (gGr V (ordf K fed) gone g0 (i + 1))) rfl d_EM_nextGroup_194 (fun H locs hw => ?_)
              refine lv_goto (tgt := 66) hx hb d_EM_nextGroup_197 (by decide) ?_
              exact ih (i + 1) H locs ls (by omega) (by omega) (by rw [glen_1 h74 h95] at hN; rw [← hN, Nat.add_assoc gone i 1]; omega) hw (lv_sub hl [1] rfl)
            · refine lv_iload_n hx hb d_EM_nextGroup_148 rfl (lv_at hl 0 rfl) ?_
              refine lv_aload_n hx hb d_EM_nextGroup_149 rfl (lv_at hl 1 rfl) ?_
              refine em_get C hw rfl lk_EM_14 rfl d_EM_nextGroup_150 ?_
              refine lv_icmp_le (tgt := 160) hx hb d_EM_nextGroup_153 (by decide) (fun h153 => ?_) (fun h153 => ?_)
              · refine lv_aload_n hx hb d_EM_nextGroup_160 rfl (lv_at hl 1 rfl) ?_
                refine em_get C hw rfl lk_EM_14 rfl d_EM_nextGroup_161 ?_
                refine zr_top (y := gGr V (ordf K fed) gone g0 (i + 1)) (by first | exact ggr_a (by omega) h145 | exact ggr_b h145 h153 | exact ggr_c h145 h153) ?_
                refine em_put C hw rfl lk_EM_14 rfl rfl rfl (Nat.le_of_ble_eq_true rfl) (W1 := emW cI cZ q K V ord lf 0 w (S * w + w) fed r (fed - r * w) true (gone + i) 2 (K (ordf K fed gone)) value (nI i) (gSum V (ordf K fed) gone i) (gLe V (ordf K fed) gone l0 (i + 1)) (gGr V (ordf K fed) gone g0 (i + 1))) rfl d_EM_nextGroup_164 (fun H locs hw => ?_)
                refine lv_aload_n hx hb d_EM_nextGroup_167 rfl (lv_at hl 1 rfl) ?_
                refine lv_aload_n hx hb d_EM_nextGroup_168 rfl (lv_at hl 1 rfl) ?_
                refine em_get C hw rfl lk_EM_12 rfl d_EM_nextGroup_169 ?_
                refine lv_iload_n hx hb d_EM_nextGroup_172 rfl (lv_at hl 0 rfl) ?_
                refine lv_iadd hx hb d_EM_nextGroup_173 ?_
                refine zr_top (y := gSum V (ordf K fed) gone (i + 1)) rfl ?_
                refine em_put C hw rfl lk_EM_12 rfl rfl rfl (Nat.le_of_ble_eq_true rfl) (W1 := emW cI cZ q K V ord lf 0 w (S * w + w) fed r (fed - r * w) true (gone + i) 2 (K (ordf K fed gone)) value (nI i) (gSum V (ordf K fed) gone (i + 1)) (gLe V (ordf K fed) gone l0 (i + 1)) (gGr V (ordf K fed) gone g0 (i + 1))) rfl d_EM_nextGroup_174 (fun H locs hw => ?_)
                refine lv_aload_n hx hb d_EM_nextGroup_177 rfl (lv_at hl 1 rfl) ?_
                refine lv_dup hx hb d_EM_nextGroup_178 rfl ?_
                refine em_get C hw rfl lk_EM_11 rfl d_EM_nextGroup_179 ?_
                refine lv_iconst (v := nI 1) hx hb d_EM_nextGroup_182 (by decide) ?_
                refine lv_iadd hx hb d_EM_nextGroup_183 ?_
                refine zr_top (y := nI (i + 1)) (nI_add i 1) ?_
                refine em_put C hw rfl lk_EM_11 rfl rfl rfl (Nat.le_of_ble_eq_true rfl) (W1 := emW cI cZ q K V ord lf 0 w (S * w + w) fed r (fed - r * w) true (gone + i) 2 (K (ordf K fed gone)) value (nI (i + 1)) (gSum V (ordf K fed) gone (i + 1)) (gLe V (ordf K fed) gone l0 (i + 1)) (gGr V (ordf K fed) gone g0 (i + 1))) rfl d_EM_nextGroup_184 (fun H locs hw => ?_)
                refine lv_aload_n hx hb d_EM_nextGroup_187 rfl (lv_at hl 1 rfl) ?_
                refine lv_dup hx hb d_EM_nextGroup_188 rfl ?_
                refine em_get C hw rfl lk_EM_7 rfl d_EM_nextGroup_189 ?_
                refine lv_iconst (v := nI 1) hx hb d_EM_nextGroup_192 (by decide) ?_
                refine zr_add hx hb d_EM_nextGroup_193 ?_
                refine zr_top (y := nI (gone + (i + 1))) rfl ?_
                refine em_put C hw rfl lk_EM_7 rfl rfl rfl (Nat.le_of_ble_eq_true rfl) (W1 := emW cI cZ q K V ord lf 0 w (S * w + w) fed r (fed - r * w) true (gone + (i + 1)) 2 (K (ordf K fed gone)) value (nI (i + 1)) (gSum V (ordf K fed) gone (i + 1)) (gLe V (ordf K fed) gone l0 (i + 1)) (gGr V (ordf K fed) gone g0 (i + 1))) rfl d_EM_nextGroup_194 (fun H locs hw => ?_)
                refine lv_goto (tgt := 66) hx hb d_EM_nextGroup_197 (by decide) ?_
                exact ih (i + 1) H locs ls (by omega) (by omega) (by rw [glen_1 h74 h95] at hN; rw [← hN, Nat.add_assoc gone i 1]; omega) hw (lv_sub hl [1] rfl)
              · refine lv_iload_n hx hb d_EM_nextGroup_156 rfl (lv_at hl 0 rfl) ?_
                refine lv_goto (tgt := 164) hx hb d_EM_nextGroup_157 (by decide) ?_
                refine zr_top (y := gGr V (ordf K fed) gone g0 (i + 1)) (by first | exact ggr_a (by omega) h145 | exact ggr_b h145 h153 | exact ggr_c h145 h153) ?_
                refine em_put C hw rfl lk_EM_14 rfl rfl rfl (Nat.le_of_ble_eq_true rfl) (W1 := emW cI cZ q K V ord lf 0 w (S * w + w) fed r (fed - r * w) true (gone + i) 2 (K (ordf K fed gone)) value (nI i) (gSum V (ordf K fed) gone i) (gLe V (ordf K fed) gone l0 (i + 1)) (gGr V (ordf K fed) gone g0 (i + 1))) rfl d_EM_nextGroup_164 (fun H locs hw => ?_)
                refine lv_aload_n hx hb d_EM_nextGroup_167 rfl (lv_at hl 1 rfl) ?_
                refine lv_aload_n hx hb d_EM_nextGroup_168 rfl (lv_at hl 1 rfl) ?_
                refine em_get C hw rfl lk_EM_12 rfl d_EM_nextGroup_169 ?_
                refine lv_iload_n hx hb d_EM_nextGroup_172 rfl (lv_at hl 0 rfl) ?_
                refine lv_iadd hx hb d_EM_nextGroup_173 ?_
                refine zr_top (y := gSum V (ordf K fed) gone (i + 1)) rfl ?_
                refine em_put C hw rfl lk_EM_12 rfl rfl rfl (Nat.le_of_ble_eq_true rfl) (W1 := emW cI cZ q K V ord lf 0 w (S * w + w) fed r (fed - r * w) true (gone + i) 2 (K (ordf K fed gone)) value (nI i) (gSum V (ordf K fed) gone (i + 1)) (gLe V (ordf K fed) gone l0 (i + 1)) (gGr V (ordf K fed) gone g0 (i + 1))) rfl d_EM_nextGroup_174 (fun H locs hw => ?_)
                refine lv_aload_n hx hb d_EM_nextGroup_177 rfl (lv_at hl 1 rfl) ?_
                refine lv_dup hx hb d_EM_nextGroup_178 rfl ?_
                refine em_get C hw rfl lk_EM_11 rfl d_EM_nextGroup_179 ?_
                refine lv_iconst (v := nI 1) hx hb d_EM_nextGroup_182 (by decide) ?_
                refine lv_iadd hx hb d_EM_nextGroup_183 ?_
                refine zr_top (y := nI (i + 1)) (nI_add i 1) ?_
                refine em_put C hw rfl lk_EM_11 rfl rfl rfl (Nat.le_of_ble_eq_true rfl) (W1 := emW cI cZ q K V ord lf 0 w (S * w + w) fed r (fed - r * w) true (gone + i) 2 (K (ordf K fed gone)) value (nI (i + 1)) (gSum V (ordf K fed) gone (i + 1)) (gLe V (ordf K fed) gone l0 (i + 1)) (gGr V (ordf K fed) gone g0 (i + 1))) rfl d_EM_nextGroup_184 (fun H locs hw => ?_)
                refine lv_aload_n hx hb d_EM_nextGroup_187 rfl (lv_at hl 1 rfl) ?_
                refine lv_dup hx hb d_EM_nextGroup_188 rfl ?_
                refine em_get C hw rfl lk_EM_7 rfl d_EM_nextGroup_189 ?_
                refine lv_iconst (v := nI 1) hx hb d_EM_nextGroup_192 (by decide) ?_
                refine zr_add hx hb d_EM_nextGroup_193 ?_
                refine zr_top (y := nI (gone + (i + 1))) rfl ?_
                refine em_put C hw rfl lk_EM_7 rfl rfl rfl (Nat.le_of_ble_eq_true rfl) (W1 := emW cI cZ q K V ord lf 0 w (S * w + w) fed r (fed - r * w) true (gone + (i + 1)) 2 (K (ordf K fed gone)) value (nI (i + 1)) (gSum V (ordf K fed) gone (i + 1)) (gLe V (ordf K fed) gone l0 (i + 1)) (gGr V (ordf K fed) gone g0 (i + 1))) rfl d_EM_nextGroup_194 (fun H locs hw => ?_)
                refine lv_goto (tgt := 66) hx hb d_EM_nextGroup_197 (by decide) ?_
                exact ih (i + 1) H locs ls (by omega) (by omega) (by rw [glen_1 h74 h95] at hN; rw [← hN, Nat.add_assoc gone i 1]; omega) hw (lv_sub hl [1] rfl)
theorem glen_pos {kx : Int32} {f c0 : Nat} {od : Nat → Nat} (h : c0 < fed) (h2 : K (od c0) = kx) : 0 < glen K od fed kx (f + 1) c0 := by
  rw [glen_1 h h2]; omega
set_option maxHeartbeats 4000000 in
set_option maxRecDepth 100000 in
theorem c_EM_nextGroup_g (hf : fed ≤ 2064) (ho : ∀ i, i < fed → ord i = ordf K fed i) {l0 g0 : Int32} (hc : gone < fed) : MetI l y_EM_nextGroup b_EM_nextGroup 2 (some .int) (rmF 0 0) D (tyL cI cZ cJ) [.ref (q 0)] (emW cI cZ q K V ord lf thrown w (S * w + w) fed r (fed - r * w) true gone current key value many sum l0 g0) sz (fun res (_ : Unit) => res = 2) (fun _ => emW cI cZ q K V ord lf 0 w (S * w + w) fed r (fed - r * w) true (gone + (glen K (ordf K fed) fed (K (ordf K fed gone)) fed gone)) 2 (K (ordf K fed gone)) value (nI (glen K (ordf K fed) fed (K (ordf K fed gone)) fed gone)) (gSum V (ordf K fed) gone (glen K (ordf K fed) fed (K (ordf K fed gone)) fed gone)) (gMin V (ordf K fed) gone (glen K (ordf K fed) fed (K (ordf K fed gone)) fed gone)) (gMax V (ordf K fed) gone (glen K (ordf K fed) fed (K (ordf K fed gone)) fed gone))) := by
  obtain ⟨f1, ef1⟩ : ∃ f1, fed = f1 + 1 := ⟨fed - 1, by omega⟩
  have hpos : 0 < glen K (ordf K fed) fed (K (ordf K fed gone)) fed gone := by rw [show glen K (ordf K fed) fed (K (ordf K fed gone)) fed gone = glen K (ordf K fed) fed (K (ordf K fed gone)) (f1 + 1) gone by rw [← ef1]]; exact glen_pos hc rfl
  rw [← (gle_pos (V := V) (od := (ordf K fed)) (c0 := gone) (l0 := l0) hpos).1, ← (gle_pos (V := V) (od := (ordf K fed)) (c0 := gone) (l0 := g0) hpos).2]
  refine MetI.of (by decide) (Nat.le_of_ble_eq_true rfl) ?_
  intro p e s m below meth c A ls C hnm hA hw hl
  have hx := C.1.1
  have hb := C.1.2.1
  have hl : lv_has ls 2 [(0, .ref (q 0))] := hl
  have hlt := ordf_lt (K := K) (n := fed) (by omega) hc
  refine lv_aload_n hx hb d_EM_nextGroup_0 rfl (lv_at hl 0 rfl) ?_
  refine lv_iconst (v := 0) hx hb d_EM_nextGroup_1 (by decide) ?_
  refine em_put C hw rfl lk_EM_0 rfl rfl rfl (Nat.le_of_ble_eq_true rfl) (W1 := emW cI cZ q K V ord lf 0 w (S * w + w) fed r (fed - r * w) true gone current key value many sum l0 g0) rfl d_EM_nextGroup_2 (fun H locs hw => ?_)
  refine lv_aload_n hx hb d_EM_nextGroup_5 rfl (lv_at hl 0 rfl) ?_
  refine em_get C hw rfl lk_EM_6 rfl d_EM_nextGroup_6 ?_
  refine zr_bne hx hb (tgt := 15) d_EM_nextGroup_9 (by decide) (fun h9 => ?_) (fun h9 => ?_)
  · refine lv_aload_n hx hb d_EM_nextGroup_15 rfl (lv_at hl 0 rfl) ?_
    refine em_get C hw rfl lk_EM_7 rfl d_EM_nextGroup_16 ?_
    refine lv_aload_n hx hb d_EM_nextGroup_19 rfl (lv_at hl 0 rfl) ?_
    refine em_get C hw rfl lk_EM_3 rfl d_EM_nextGroup_20 ?_
    refine zr_cne hx hb (by omega) (by omega) (tgt := 33) d_EM_nextGroup_23 (by decide) (fun h23 => ?_) (fun h23 => ?_)
    · refine lv_aload_n hx hb d_EM_nextGroup_33 rfl (lv_at hl 0 rfl) ?_
      refine lv_iconst (v := 2) hx hb d_EM_nextGroup_34 (by decide) ?_
      refine em_put C hw rfl lk_EM_8 rfl rfl rfl (Nat.le_of_ble_eq_true rfl) (W1 := emW cI cZ q K V ord lf 0 w (S * w + w) fed r (fed - r * w) true gone 2 key value many sum l0 g0) rfl d_EM_nextGroup_35 (fun H locs hw => ?_)
      refine lv_aload_n hx hb d_EM_nextGroup_38 rfl (lv_at hl 0 rfl) ?_
      refine lv_aload_n hx hb d_EM_nextGroup_39 rfl (lv_at hl 0 rfl) ?_
      refine em_get C hw rfl lk_EM_15 rfl d_EM_nextGroup_40 ?_
      refine lv_aload_n hx hb d_EM_nextGroup_43 rfl (lv_at hl 0 rfl) ?_
      refine em_get C hw rfl lk_EM_17 rfl d_EM_nextGroup_44 ?_
      refine lv_aload_n hx hb d_EM_nextGroup_47 rfl (lv_at hl 0 rfl) ?_
      refine em_get C hw rfl lk_EM_7 rfl d_EM_nextGroup_48 ?_
      refine zr_ald C hw 3 0 rfl rfl (by omega) (by omega) (v := nI (ord gone)) rfl d_EM_nextGroup_51 ?_
      refine zr_top (y := nI (ordf K fed (gone))) (congrArg nI (ho _ (by omega))) ?_
      refine zr_ald C hw 1 0 rfl rfl (by omega) (by omega) (v := K (ordf K fed (gone))) rfl d_EM_nextGroup_52 ?_
      refine em_put C hw rfl lk_EM_9 rfl rfl rfl (Nat.le_of_ble_eq_true rfl) (W1 := emW cI cZ q K V ord lf 0 w (S * w + w) fed r (fed - r * w) true gone 2 (K (ordf K fed (gone))) value many sum l0 g0) rfl d_EM_nextGroup_53 (fun H locs hw => ?_)
      refine lv_aload_n hx hb d_EM_nextGroup_56 rfl (lv_at hl 0 rfl) ?_
      refine lv_iconst (v := nI 0) hx hb d_EM_nextGroup_57 (by decide) ?_
      refine em_put C hw rfl lk_EM_11 rfl rfl rfl (Nat.le_of_ble_eq_true rfl) (W1 := emW cI cZ q K V ord lf 0 w (S * w + w) fed r (fed - r * w) true gone 2 (K (ordf K fed (gone))) value (nI 0) sum l0 g0) rfl d_EM_nextGroup_58 (fun H locs hw => ?_)
      refine lv_aload_n hx hb d_EM_nextGroup_61 rfl (lv_at hl 0 rfl) ?_
      refine lv_iconst (v := 0) hx hb d_EM_nextGroup_62 (by decide) ?_
      refine em_put C hw rfl lk_EM_12 rfl rfl rfl (Nat.le_of_ble_eq_true rfl) (W1 := emW cI cZ q K V ord lf 0 w (S * w + w) fed r (fed - r * w) true gone 2 (K (ordf K fed (gone))) value (nI 0) 0 l0 g0) rfl d_EM_nextGroup_63 (fun H locs hw => ?_)
      have hw : Wd D (tyL cI cZ cJ) A s H locs (emW cI cZ q K V ord lf 0 w (S * w + w) fed r (fed - r * w) true (gone + 0) 2 (K (ordf K fed gone)) value (nI 0) (gSum V (ordf K fed) gone 0) (gLe V (ordf K fed) gone l0 0) (gGr V (ordf K fed) gone g0 0)) := hw
      exact lp_EM_nextGroup C hA hf ho fed 0 H locs ls (by omega) (by omega) (by rw [Nat.zero_add, Nat.add_zero]) hw hl
    · exact absurd h23 (by omega)
  · exact absurd h9 (by decide)
set_option maxHeartbeats 4000000 in
set_option maxRecDepth 100000 in
theorem c_EM_skipTo_u {kx : Int32} : MetI l y_EM_skipTo b_EM_skipTo 3 (some .int) (rmF 0 0) D (tyL cI cZ cJ) [.ref (q 0), .int kx] (emW cI cZ q K V ord lf thrown w (S * w + w) fed r (fed - r * w) false gone current key value many sum least most) sz (fun res (_ : Unit) => res = -4) (fun _ => emW cI cZ q K V ord lf 0 w (S * w + w) fed r (fed - r * w) false gone current key value many sum least most) := by
  refine MetI.of (by decide) (Nat.le_of_ble_eq_true rfl) ?_
  intro p e s m below meth c A ls C hnm hA hw hl
  have hx := C.1.1
  have hb := C.1.2.1
  have hl : lv_has ls 3 [(0, .ref (q 0)), (1, .int kx)] := hl
  refine lv_aload_n hx hb d_EM_skipTo_0 rfl (lv_at hl 0 rfl) ?_
  refine lv_iconst (v := 0) hx hb d_EM_skipTo_1 (by decide) ?_
  refine em_put C hw rfl lk_EM_0 rfl rfl rfl (Nat.le_of_ble_eq_true rfl) (W1 := emW cI cZ q K V ord lf 0 w (S * w + w) fed r (fed - r * w) false gone current key value many sum least most) rfl d_EM_skipTo_2 (fun H locs hw => ?_)
  refine lv_aload_n hx hb d_EM_skipTo_5 rfl (lv_at hl 0 rfl) ?_
  refine em_get C hw rfl lk_EM_6 rfl d_EM_skipTo_6 ?_
  refine zr_bne hx hb (tgt := 15) d_EM_skipTo_9 (by decide) (fun h9 => ?_) (fun h9 => ?_)
  · exact absurd h9 (by decide)
  · refine lv_bipush (v := (-4)) hx hb d_EM_skipTo_12 (by decide) ?_
    exact zr_iret C () (rfl) hw d_EM_skipTo_14
set_option maxHeartbeats 4000000 in
set_option maxRecDepth 100000 in
theorem lp_EM_skipTo {p : Program} {e : Env} {s : State} {m : MethodId} {args : Array Value} {below : List Frame} {meth : Method} {c : Code} {A : Nat → Prop} (C : Cx p m meth c b_EM_skipTo 3 (some .int) s args R_EM) (hA : ∀ q : Nat, s.heap.size ≤ q → A q) {N : Nat} {kx : Int32} (hf : fed ≤ 2064) (ho : ∀ i, i < fed → ord i = ordf K fed i) : ∀ (f i : Nat) (H : Heap) (locs : List Loc) (ls : Array Slot), gone + i ≤ fed → fed ≤ gone + i + f → i + slen K (ordf K fed) fed kx f (gone + i) = N → Wd D (tyL cI cZ cJ) A s H locs (emW cI cZ q K V ord lf 0 w (S * w + w) fed r (fed - r * w) true (gone + i) current key value many sum least most) → lv_has ls 3 [(2, .int (nI i)), (0, .ref (q 0)), (1, .int kx)] → W p l e (rmF 0 0) s m args below meth c H locs 0 0 (MQ below (va_Qi (fun res (_ : Unit) => res = nI N) (cB D (tyL cI cZ cJ) A (fun (_ : Unit) => emW cI cZ q K V ord lf 0 w (S * w + w) fed r (fed - r * w) true (gone + N) 0 key value many sum least most)) A) args s 0 0 A) (F0 m 17 ls []) := by
  have hx := C.1.1
  have hb := C.1.2.1
  intro f
  induction f with
  | zero =>
    intro i H locs ls hi hf2 hN hw hl
    refine lv_aload_n hx hb d_EM_skipTo_17 rfl (lv_at hl 1 rfl) ?_
    refine em_get C hw rfl lk_EM_7 rfl d_EM_skipTo_18 ?_
    refine lv_aload_n hx hb d_EM_skipTo_21 rfl (lv_at hl 1 rfl) ?_
    refine em_get C hw rfl lk_EM_3 rfl d_EM_skipTo_22 ?_
    refine zr_cge hx hb (by omega) (by omega) (tgt := 62) d_EM_skipTo_25 (by decide) (fun h25 => ?_) (fun h25 => ?_)
    · have ei : i = N := by rw [slen_0 (by first | omega | exact (fun z => Int32.not_lt.mpr h43 z.2))] at hN; omega
      subst ei
      refine lv_aload_n hx hb d_EM_skipTo_62 rfl (lv_at hl 1 rfl) ?_
      refine lv_iconst (v := 0) hx hb d_EM_skipTo_63 (by decide) ?_
      refine em_put C hw rfl lk_EM_8 rfl rfl rfl (Nat.le_of_ble_eq_true rfl) (W1 := emW cI cZ q K V ord lf 0 w (S * w + w) fed r (fed - r * w) true (gone + i) 0 key value many sum least most) rfl d_EM_skipTo_64 (fun H locs hw => ?_)
      refine lv_iload_n hx hb d_EM_skipTo_67 rfl (lv_at hl 0 rfl) ?_
      exact zr_iret C () (rfl) hw d_EM_skipTo_68
    · exact absurd h25 (by omega)
  | succ f ih =>
    intro i H locs ls hi hf2 hN hw hl
    refine lv_aload_n hx hb d_EM_skipTo_17 rfl (lv_at hl 1 rfl) ?_
    refine em_get C hw rfl lk_EM_7 rfl d_EM_skipTo_18 ?_
    refine lv_aload_n hx hb d_EM_skipTo_21 rfl (lv_at hl 1 rfl) ?_
    refine em_get C hw rfl lk_EM_3 rfl d_EM_skipTo_22 ?_
    refine zr_cge hx hb (by omega) (by omega) (tgt := 62) d_EM_skipTo_25 (by decide) (fun h25 => ?_) (fun h25 => ?_)
    · have ei : i = N := by rw [slen_0 (by first | omega | exact (fun z => Int32.not_lt.mpr h43 z.2))] at hN; omega
      subst ei
      refine lv_aload_n hx hb d_EM_skipTo_62 rfl (lv_at hl 1 rfl) ?_
      refine lv_iconst (v := 0) hx hb d_EM_skipTo_63 (by decide) ?_
      refine em_put C hw rfl lk_EM_8 rfl rfl rfl (Nat.le_of_ble_eq_true rfl) (W1 := emW cI cZ q K V ord lf 0 w (S * w + w) fed r (fed - r * w) true (gone + i) 0 key value many sum least most) rfl d_EM_skipTo_64 (fun H locs hw => ?_)
      refine lv_iload_n hx hb d_EM_skipTo_67 rfl (lv_at hl 0 rfl) ?_
      exact zr_iret C () (rfl) hw d_EM_skipTo_68
    · have hlt := ordf_lt (K := K) (n := fed) (by omega) h25
      refine lv_aload_n hx hb d_EM_skipTo_28 rfl (lv_at hl 1 rfl) ?_
      refine em_get C hw rfl lk_EM_15 rfl d_EM_skipTo_29 ?_
      refine lv_aload_n hx hb d_EM_skipTo_32 rfl (lv_at hl 1 rfl) ?_
      refine em_get C hw rfl lk_EM_17 rfl d_EM_skipTo_33 ?_
      refine lv_aload_n hx hb d_EM_skipTo_36 rfl (lv_at hl 1 rfl) ?_
      refine em_get C hw rfl lk_EM_7 rfl d_EM_skipTo_37 ?_
      refine zr_ald C hw 3 0 rfl rfl (by omega) (by omega) (v := nI (ord (gone + i))) rfl d_EM_skipTo_40 ?_
      refine zr_top (y := nI (ordf K fed (gone + i))) (congrArg nI (ho _ (by omega))) ?_
      refine zr_ald C hw 1 0 rfl rfl (by omega) (by omega) (v := K (ordf K fed (gone + i))) rfl d_EM_skipTo_41 ?_
      refine lv_iload_n hx hb d_EM_skipTo_42 rfl (lv_at hl 2 rfl) ?_
      refine lv_icmp_ge (tgt := 62) hx hb d_EM_skipTo_43 (by decide) (fun h43 => ?_) (fun h43 => ?_)
      · have ei : i = N := by rw [slen_0 (by first | omega | exact (fun z => Int32.not_lt.mpr h43 z.2))] at hN; omega
        subst ei
        refine lv_aload_n hx hb d_EM_skipTo_62 rfl (lv_at hl 1 rfl) ?_
        refine lv_iconst (v := 0) hx hb d_EM_skipTo_63 (by decide) ?_
        refine em_put C hw rfl lk_EM_8 rfl rfl rfl (Nat.le_of_ble_eq_true rfl) (W1 := emW cI cZ q K V ord lf 0 w (S * w + w) fed r (fed - r * w) true (gone + i) 0 key value many sum least most) rfl d_EM_skipTo_64 (fun H locs hw => ?_)
        refine lv_iload_n hx hb d_EM_skipTo_67 rfl (lv_at hl 0 rfl) ?_
        exact zr_iret C () (rfl) hw d_EM_skipTo_68
      · refine lv_aload_n hx hb d_EM_skipTo_46 rfl (lv_at hl 1 rfl) ?_
        refine lv_dup hx hb d_EM_skipTo_47 rfl ?_
        refine em_get C hw rfl lk_EM_7 rfl d_EM_skipTo_48 ?_
        refine lv_iconst (v := nI 1) hx hb d_EM_skipTo_51 (by decide) ?_
        refine zr_add hx hb d_EM_skipTo_52 ?_
        refine zr_top (y := nI (gone + (i + 1))) rfl ?_
        refine em_put C hw rfl lk_EM_7 rfl rfl rfl (Nat.le_of_ble_eq_true rfl) (W1 := emW cI cZ q K V ord lf 0 w (S * w + w) fed r (fed - r * w) true (gone + (i + 1)) current key value many sum least most) rfl d_EM_skipTo_53 (fun H locs hw => ?_)
        refine lv_iinc (v := nI (i + 1)) (lv' := [(2, .int (nI (i + 1))), (0, .ref (q 0)), (1, .int kx)]) hx hb d_EM_skipTo_56 hl (k := 0) rfl (nI_1 _) (by decide) rfl (fun ls hl => ?_)
        refine lv_goto (tgt := 17) hx hb d_EM_skipTo_59 (by decide) ?_
        exact ih (i + 1) H locs ls (by omega) (by omega) (by rw [slen_1 h25 (Int32.not_le.mp h43)] at hN; rw [← hN, Nat.add_assoc gone i 1]; omega) hw (lv_sub hl [0, 1, 2] rfl)
set_option maxHeartbeats 4000000 in
set_option maxRecDepth 100000 in
theorem c_EM_skipTo_g (hf : fed ≤ 2064) (ho : ∀ i, i < fed → ord i = ordf K fed i) {kx : Int32} (hc : gone ≤ fed) : MetI l y_EM_skipTo b_EM_skipTo 3 (some .int) (rmF 0 0) D (tyL cI cZ cJ) [.ref (q 0), .int kx] (emW cI cZ q K V ord lf thrown w (S * w + w) fed r (fed - r * w) true gone current key value many sum least most) sz (fun res (_ : Unit) => res = nI (slen K (ordf K fed) fed kx fed gone)) (fun _ => emW cI cZ q K V ord lf 0 w (S * w + w) fed r (fed - r * w) true (gone + slen K (ordf K fed) fed kx fed gone) 0 key value many sum least most) := by
  refine MetI.of (by decide) (Nat.le_of_ble_eq_true rfl) ?_
  intro p e s m below meth c A ls C hnm hA hw hl
  have hx := C.1.1
  have hb := C.1.2.1
  have hl : lv_has ls 3 [(0, .ref (q 0)), (1, .int kx)] := hl
  refine lv_aload_n hx hb d_EM_skipTo_0 rfl (lv_at hl 0 rfl) ?_
  refine lv_iconst (v := 0) hx hb d_EM_skipTo_1 (by decide) ?_
  refine em_put C hw rfl lk_EM_0 rfl rfl rfl (Nat.le_of_ble_eq_true rfl) (W1 := emW cI cZ q K V ord lf 0 w (S * w + w) fed r (fed - r * w) true gone current key value many sum least most) rfl d_EM_skipTo_2 (fun H locs hw => ?_)
  refine lv_aload_n hx hb d_EM_skipTo_5 rfl (lv_at hl 0 rfl) ?_
  refine em_get C hw rfl lk_EM_6 rfl d_EM_skipTo_6 ?_
  refine zr_bne hx hb (tgt := 15) d_EM_skipTo_9 (by decide) (fun h9 => ?_) (fun h9 => ?_)
  · refine lv_iconst (v := nI 0) hx hb d_EM_skipTo_15 (by decide) ?_
    refine lv_istore_n (lv' := [(2, .int (nI 0)), (0, .ref (q 0)), (1, .int kx)]) hx hb d_EM_skipTo_16 rfl hl (by decide) rfl (fun ls hl => ?_)
    have hw : Wd D (tyL cI cZ cJ) A s H locs (emW cI cZ q K V ord lf 0 w (S * w + w) fed r (fed - r * w) true (gone + 0) current key value many sum least most) := hw
    exact lp_EM_skipTo C hA hf ho fed 0 H locs ls (by omega) (by omega) (by rw [Nat.zero_add, Nat.add_zero]) hw (lv_sub hl [0, 1, 2] rfl)
  · exact absurd h9 (by decide)
set_option maxHeartbeats 4000000 in
set_option maxRecDepth 100000 in
theorem lp_EM_runs1 {p : Program} {e : Env} {s : State} {m : MethodId} {args : Array Value} {below : List Frame} {meth : Method} {c : Code} {A : Nat → Prop} (C : Cx p m meth c b_EM_runsLeft 4 (some .int) s args R_EM) (hA : ∀ q : Nat, s.heap.size ≤ q → A q) {Q : State → Prop} (hf : fed ≤ 2064) (KK : ∀ (H : Heap) (locs : List Loc) (ls : Array Slot), Wd D (tyL cI cZ cJ) A s H locs (emW cI cZ q K V ord (clr lf fed) thrown w (S * w + w) fed r (fed - r * w) reading gone current key value many sum least most) → lv_has ls 4 [(0, .ref (q 0))] → W p l e (rmF 0 0) s m args below meth c H locs 0 0 Q (F0 m 23 ls [])) : ∀ (n k : Nat) (H : Heap) (locs : List Loc) (ls : Array Slot), k + n = fed → Wd D (tyL cI cZ cJ) A s H locs (emW cI cZ q K V ord (clr lf k) thrown w (S * w + w) fed r (fed - r * w) reading gone current key value many sum least most) → lv_has ls 4 [(1, .int (nI k)), (0, .ref (q 0))] → W p l e (rmF 0 0) s m args below meth c H locs 0 0 Q (F0 m 2 ls []) := by
  have hx := C.1.1
  have hb := C.1.2.1
  intro n
  induction n with
  | zero =>
    intro k H locs ls hk hw hl
    have ek : k = fed := hk
    refine lv_iload_n hx hb d_EM_runsLeft_2 rfl (lv_at hl 0 rfl) ?_
    refine lv_aload_n hx hb d_EM_runsLeft_3 rfl (lv_at hl 1 rfl) ?_
    refine em_get C hw rfl lk_EM_3 rfl d_EM_runsLeft_4 ?_
    refine zr_cge hx hb (by omega) (by omega) (tgt := 23) d_EM_runsLeft_7 (by decide) (fun h7 => ?_) (fun h7 => ?_)
    · exact KK H locs ls (by rw [← ek]; rw [← ek] at hw; exact hw) (lv_sub hl [1] rfl)
    · exact absurd h7 (by omega)
  | succ n ih =>
    intro k H locs ls hk hw hl
    refine lv_iload_n hx hb d_EM_runsLeft_2 rfl (lv_at hl 0 rfl) ?_
    refine lv_aload_n hx hb d_EM_runsLeft_3 rfl (lv_at hl 1 rfl) ?_
    refine em_get C hw rfl lk_EM_3 rfl d_EM_runsLeft_4 ?_
    refine zr_cge hx hb (by omega) (by omega) (tgt := 23) d_EM_runsLeft_7 (by decide) (fun h7 => ?_) (fun h7 => ?_)
    · exact absurd h7 (by omega)
    · refine lv_aload_n hx hb d_EM_runsLeft_10 rfl (lv_at hl 1 rfl) ?_
      refine em_get C hw rfl lk_EM_18 rfl d_EM_runsLeft_11 ?_
      refine lv_iload_n hx hb d_EM_runsLeft_14 rfl (lv_at hl 0 rfl) ?_
      refine lv_iconst (v := bI false) hx hb d_EM_runsLeft_15 (by decide) ?_
      refine zr_zst C hw 4 1 rfl rfl (by omega) (by omega) (v' := bI false) rfl (clr_s lf k) (W1 := emW cI cZ q K V ord (clr lf (k + 1)) thrown w (S * w + w) fed r (fed - r * w) reading gone current key value many sum least most) rfl d_EM_runsLeft_16 (fun H locs hw => ?_)
      refine lv_iinc (v := nI (k + 1)) (lv' := [(1, .int (nI (k + 1))), (0, .ref (q 0))]) hx hb d_EM_runsLeft_17 hl (k := 0) rfl (nI_1 _) (by decide) rfl (fun ls hl => ?_)
      refine lv_goto (tgt := 2) hx hb d_EM_runsLeft_20 (by decide) ?_
      exact ih (k + 1) H locs ls (by omega) hw hl
set_option maxHeartbeats 4000000 in
set_option maxRecDepth 100000 in
theorem lp_EM_runs2 {p : Program} {e : Env} {s : State} {m : MethodId} {args : Array Value} {below : List Frame} {meth : Method} {c : Code} {A : Nat → Prop} (C : Cx p m meth c b_EM_runsLeft 4 (some .int) s args R_EM) (hA : ∀ q : Nat, s.heap.size ≤ q → A q) (hf : fed ≤ 2064) (ho : ∀ i, i < fed → ord i = ordf K fed i) (hw0 : 0 < w) (hwb : w ≤ 64) : ∀ (n i : Nat) (lf : Nat → Bool) (H : Heap) (locs : List Loc) (ls : Array Slot), i + n = fed → gone ≤ i → (∀ j, j < fed → (lf j = true ↔ ∃ i2, gone ≤ i2 ∧ i2 < i ∧ ordf K fed i2 / w = j)) → Wd D (tyL cI cZ cJ) A s H locs (emW cI cZ q K V ord lf thrown w (S * w + w) fed r (fed - r * w) true gone current key value many sum least most) → lv_has ls 4 [(2, .int (nI i)), (1, .int (nI (cntB lf fed))), (0, .ref (q 0))] → W p l e (rmF 0 0) s m args below meth c H locs 0 0 (MQ below (va_Qi (fun res (_ : Nat → Bool) => res = nI (cntB (leftB K fed gone w) fed)) (cB D (tyL cI cZ cJ) A (fun lf => emW cI cZ q K V ord lf thrown w (S * w + w) fed r (fed - r * w) true gone current key value many sum least most)) A) args s 0 0 A) (F0 m 30 ls []) := by
  have hx := C.1.1
  have hb := C.1.2.1
  intro n
  induction n with
  | zero =>
    intro i lf H locs ls hi hg hlf hw hl
    have ei : i = fed := hi
    refine lv_iload_n hx hb d_EM_runsLeft_30 rfl (lv_at hl 0 rfl) ?_
    refine lv_aload_n hx hb d_EM_runsLeft_31 rfl (lv_at hl 2 rfl) ?_
    refine em_get C hw rfl lk_EM_3 rfl d_EM_runsLeft_32 ?_
    refine zr_cge hx hb (by omega) (by omega) (tgt := 80) d_EM_runsLeft_35 (by decide) (fun h35 => ?_) (fun h35 => ?_)
    · refine lv_iload_n hx hb d_EM_runsLeft_80 rfl (lv_at hl 1 rfl) ?_
      have ecn : cntB lf fed = cntB (leftB K fed gone w) fed := by
        refine cnt_congr fed (fun j hj => ?_)
        have h1 := hlf j hj
        rw [ei] at h1
        cases e1 : lf j with
        | true => exact (leftB_iff.mpr (by obtain ⟨i2, a1, a2, a3⟩ := h1.mp e1; exact ⟨i2, a1, a2, a3⟩)).symm
        | false =>
          cases e2 : leftB K fed gone w j with
          | false => rfl
          | true => rw [h1.mpr (leftB_iff.mp e2)] at e1; cases e1
      exact zr_iret C lf (congrArg nI ecn) hw d_EM_runsLeft_81
    · exact absurd h35 (by omega)
  | succ n ih =>
    intro i lf H locs ls hi hg hlf hw hl
    refine lv_iload_n hx hb d_EM_runsLeft_30 rfl (lv_at hl 0 rfl) ?_
    refine lv_aload_n hx hb d_EM_runsLeft_31 rfl (lv_at hl 2 rfl) ?_
    refine em_get C hw rfl lk_EM_3 rfl d_EM_runsLeft_32 ?_
    refine zr_cge hx hb (by omega) (by omega) (tgt := 80) d_EM_runsLeft_35 (by decide) (fun h35 => ?_) (fun h35 => ?_)
    · exact absurd h35 (by omega)
    · have hlt := ordf_lt (K := K) (n := fed) (by omega) h35
      have hrn : ordf K fed i / w ≤ ordf K fed i := Nat.div_le_self _ _
      have hrz : 0 ≤ ordf K fed i / w := Nat.zero_le _
      refine lv_aload_n hx hb d_EM_runsLeft_38 rfl (lv_at hl 2 rfl) ?_
      refine em_get C hw rfl lk_EM_17 rfl d_EM_runsLeft_39 ?_
      refine lv_iload_n hx hb d_EM_runsLeft_42 rfl (lv_at hl 0 rfl) ?_
      refine zr_ald C hw 3 0 rfl rfl (by omega) (by omega) (v := nI (ord i)) rfl d_EM_runsLeft_43 ?_
      refine zr_top (y := nI (ordf K fed (i))) (congrArg nI (ho _ (by omega))) ?_
      refine lv_aload_n hx hb d_EM_runsLeft_44 rfl (lv_at hl 2 rfl) ?_
      refine em_get C hw rfl lk_EM_1 rfl d_EM_runsLeft_45 ?_
      refine zr_div hx hb (by omega) hw0 (by omega) d_EM_runsLeft_48 ?_
      refine lv_istore_n (lv' := [(3, .int (nI ((ordf K fed (i)) / w))), (2, .int (nI i)), (1, .int (nI (cntB lf fed))), (0, .ref (q 0))]) hx hb d_EM_runsLeft_49 rfl hl (by decide) rfl (fun ls hl => ?_)
      refine lv_aload_n hx hb d_EM_runsLeft_50 rfl (lv_at hl 3 rfl) ?_
      refine em_get C hw rfl lk_EM_18 rfl d_EM_runsLeft_51 ?_
      refine lv_iload_n hx hb d_EM_runsLeft_54 rfl (lv_at hl 0 rfl) ?_
      refine zr_zld C hw 4 1 rfl rfl (by omega) (by omega) (v := bI (lf ((ordf K fed (i)) / w))) rfl d_EM_runsLeft_55 ?_
      refine zr_beq hx hb (tgt := 63) d_EM_runsLeft_56 (by decide) (fun h56 => ?_) (fun h56 => ?_)
      · refine lv_iload_n hx hb d_EM_runsLeft_63 rfl (lv_at hl 2 rfl) ?_
        refine lv_iconst (v := nI 1) hx hb d_EM_runsLeft_64 (by decide) ?_
        refine zr_add hx hb d_EM_runsLeft_65 ?_
        refine zr_top (y := nI (cntB (va_up lf (ordf K fed i / w) true) fed)) (congrArg nI (by first | exact (cnt_up h56 fed (by omega)).symm | (rw [va_up_same h56]; done))) ?_
        refine lv_istore_n (lv' := [(1, .int (nI (cntB (va_up lf (ordf K fed i / w) true) fed))), (3, .int (nI ((ordf K fed (i)) / w))), (2, .int (nI i)), (0, .ref (q 0))]) hx hb d_EM_runsLeft_66 rfl hl (by decide) rfl (fun ls hl => ?_)
        refine lv_aload_n hx hb d_EM_runsLeft_67 rfl (lv_at hl 3 rfl) ?_
        refine em_get C hw rfl lk_EM_18 rfl d_EM_runsLeft_68 ?_
        refine lv_iload_n hx hb d_EM_runsLeft_71 rfl (lv_at hl 1 rfl) ?_
        refine lv_iconst (v := bI true) hx hb d_EM_runsLeft_72 (by decide) ?_
        refine zr_zst C hw 4 1 rfl rfl (by omega) (by omega) (v' := bI true) rfl (upd_bA _ _ _) (W1 := emW cI cZ q K V ord (va_up lf ((ordf K fed (i)) / w) true) thrown w (S * w + w) fed r (fed - r * w) true gone current key value many sum least most) rfl d_EM_runsLeft_73 (fun H locs hw => ?_)
        refine lv_iinc (v := nI (i + 1)) (lv' := [(2, .int (nI (i + 1))), (1, .int (nI (cntB (va_up lf (ordf K fed i / w) true) fed))), (3, .int (nI ((ordf K fed (i)) / w))), (0, .ref (q 0))]) hx hb d_EM_runsLeft_74 hl (k := 2) rfl (nI_1 _) (by decide) rfl (fun ls hl => ?_)
        refine lv_goto (tgt := 30) hx hb d_EM_runsLeft_77 (by decide) ?_
        exact ih (i + 1) _ H locs ls (by omega) (by omega) (fun j hj => by
            have h1 := hlf j hj
            by_cases q1 : j = ordf K fed i / w
            · rw [q1, va_up_s]; exact ⟨fun _ => ⟨i, hg, by omega, rfl⟩, fun _ => rfl⟩
            · rw [va_up_o _ _ q1, h1]
              exact ⟨fun ⟨i2, a1, a2, a3⟩ => ⟨i2, a1, by omega, a3⟩, fun ⟨i2, a1, a2, a3⟩ => ⟨i2, a1, by
                rcases Nat.lt_or_ge i2 i with z | z
                · exact z
                · exact absurd (by rw [← a3, show i2 = i by omega]) q1, a3⟩⟩) hw (lv_sub hl [0, 1, 3] rfl)
      · refine lv_iload_n hx hb d_EM_runsLeft_59 rfl (lv_at hl 2 rfl) ?_
        refine lv_goto (tgt := 66) hx hb d_EM_runsLeft_60 (by decide) ?_
        refine zr_top (y := nI (cntB (va_up lf (ordf K fed i / w) true) fed)) (congrArg nI (by first | exact (cnt_up h56 fed (by omega)).symm | (rw [va_up_same h56]; done))) ?_
        refine lv_istore_n (lv' := [(1, .int (nI (cntB (va_up lf (ordf K fed i / w) true) fed))), (3, .int (nI ((ordf K fed (i)) / w))), (2, .int (nI i)), (0, .ref (q 0))]) hx hb d_EM_runsLeft_66 rfl hl (by decide) rfl (fun ls hl => ?_)
        refine lv_aload_n hx hb d_EM_runsLeft_67 rfl (lv_at hl 3 rfl) ?_
        refine em_get C hw rfl lk_EM_18 rfl d_EM_runsLeft_68 ?_
        refine lv_iload_n hx hb d_EM_runsLeft_71 rfl (lv_at hl 1 rfl) ?_
        refine lv_iconst (v := bI true) hx hb d_EM_runsLeft_72 (by decide) ?_
        refine zr_zst C hw 4 1 rfl rfl (by omega) (by omega) (v' := bI true) rfl (upd_bA _ _ _) (W1 := emW cI cZ q K V ord (va_up lf ((ordf K fed (i)) / w) true) thrown w (S * w + w) fed r (fed - r * w) true gone current key value many sum least most) rfl d_EM_runsLeft_73 (fun H locs hw => ?_)
        refine lv_iinc (v := nI (i + 1)) (lv' := [(2, .int (nI (i + 1))), (1, .int (nI (cntB (va_up lf (ordf K fed i / w) true) fed))), (3, .int (nI ((ordf K fed (i)) / w))), (0, .ref (q 0))]) hx hb d_EM_runsLeft_74 hl (k := 2) rfl (nI_1 _) (by decide) rfl (fun ls hl => ?_)
        refine lv_goto (tgt := 30) hx hb d_EM_runsLeft_77 (by decide) ?_
        exact ih (i + 1) _ H locs ls (by omega) (by omega) (fun j hj => by
            have h1 := hlf j hj
            by_cases q1 : j = ordf K fed i / w
            · rw [q1, va_up_s]; exact ⟨fun _ => ⟨i, hg, by omega, rfl⟩, fun _ => rfl⟩
            · rw [va_up_o _ _ q1, h1]
              exact ⟨fun ⟨i2, a1, a2, a3⟩ => ⟨i2, a1, by omega, a3⟩, fun ⟨i2, a1, a2, a3⟩ => ⟨i2, a1, by
                rcases Nat.lt_or_ge i2 i with z | z
                · exact z
                · exact absurd (by rw [← a3, show i2 = i by omega]) q1, a3⟩⟩) hw (lv_sub hl [0, 1, 3] rfl)
theorem cnt_none : ∀ n, cntB (fun _ => false) n = 0 := by
  intro n
  induction n with
  | zero => rfl
  | succ n ih => show cntB (fun _ => false) n + 0 = 0; rw [ih]
set_option maxHeartbeats 4000000 in
set_option maxRecDepth 100000 in
theorem c_EM_runsLeft (hf : fed ≤ 2064) (ho : ∀ i, i < fed → ord i = ordf K fed i) (hc : gone ≤ fed) (hw0 : 0 < w) (hwb : w ≤ 64) : MetI l y_EM_runsLeft b_EM_runsLeft 4 (some .int) (rmF 0 0) D (tyL cI cZ cJ) [.ref (q 0)] (emW cI cZ q K V ord lf thrown w (S * w + w) fed r (fed - r * w) true gone current key value many sum least most) sz (fun res (_ : Nat → Bool) => res = nI (cntB (leftB K fed gone w) fed)) (fun lf => emW cI cZ q K V ord lf thrown w (S * w + w) fed r (fed - r * w) true gone current key value many sum least most) := by
  refine MetI.of (by decide) (Nat.le_of_ble_eq_true rfl) ?_
  intro p e s m below meth c A ls C hnm hA hw hl
  have hx := C.1.1
  have hb := C.1.2.1
  have hl : lv_has ls 4 [(0, .ref (q 0))] := hl
  refine lv_iconst (v := nI 0) hx hb d_EM_runsLeft_0 (by decide) ?_
  refine lv_istore_n (lv' := [(1, .int (nI 0)), (0, .ref (q 0))]) hx hb d_EM_runsLeft_1 rfl hl (by decide) rfl (fun ls hl => ?_)
  have hw : Wd D (tyL cI cZ cJ) A s s.heap [] (emW cI cZ q K V ord (clr lf 0) thrown w (S * w + w) fed r (fed - r * w) true gone current key value many sum least most) := by rw [clr_0]; exact hw
  refine lp_EM_runs1 C hA hf (fun H locs ls hw hl => ?_) fed 0 _ _ ls (by omega) hw (lv_sub hl [0, 1] rfl)
  have hw : Wd D (tyL cI cZ cJ) A s H locs (emW cI cZ q K V ord (clr lf fed) thrown w (S * w + w) fed r (fed - r * w) true gone current key value many sum least most) := hw
  refine lv_iconst (v := nI 0) hx hb d_EM_runsLeft_23 (by decide) ?_
  refine zr_top (y := nI (cntB (clr lf fed) fed)) (congrArg nI (by rw [cnt_congr (g := fun _ => false) fed (fun j hj => by unfold clr; rw [if_pos hj])]; exact (cnt_none fed).symm)) ?_
  refine lv_istore_n (lv' := [(1, .int (nI (cntB (clr lf fed) fed))), (0, .ref (q 0))]) hx hb d_EM_runsLeft_24 rfl hl (by decide) rfl (fun ls hl => ?_)
  refine lv_aload_n hx hb d_EM_runsLeft_25 rfl (lv_at hl 1 rfl) ?_
  refine em_get C hw rfl lk_EM_7 rfl d_EM_runsLeft_26 ?_
  refine lv_istore_n (lv' := [(2, .int (nI gone)), (1, .int (nI (cntB (clr lf fed) fed))), (0, .ref (q 0))]) hx hb d_EM_runsLeft_29 rfl hl (by decide) rfl (fun ls hl => ?_)
  exact lp_EM_runs2 C hA hf ho hw0 hwb (fed - gone) gone (clr lf fed) H locs ls (by omega) (Nat.le_refl _) (fun j hj => by
      unfold clr; rw [if_pos hj]
      exact ⟨fun z => Bool.noConfusion z, fun ⟨i2, a1, a2, a3⟩ => absurd a1 (by omega)⟩) hw (lv_sub hl [0, 1, 2] rfl)
theorem h_EM_runsLeft : y_EM_runsLeft.cls ≠ "java/lang/invoke/MethodHandle" ∧ y_EM_runsLeft.cls ≠ "java/lang/invoke/VarHandle" ∧ (parseMethodDescriptor y_EM_runsLeft.desc).map (fun d => d.parameters.length) = some 0 := by decide +kernel
theorem g_EM_EM_runsLeft : GoodIn tb (wsV R_EM 74 y_EM_runsLeft.cls y_EM_runsLeft (wd y_EM_runsLeft b_EM_runsLeft 4 (some .int))) := gd_V (by decide +kernel)
set_option maxHeartbeats 4000000 in
set_option maxRecDepth 100000 in
theorem c_EM_count_t {n4 : Int32} (hn : n4 < 0 ∨ 3 < n4) : MetI l y_EM_count b_EM_count 2 (some .int) (rmF 1 23) D (tyL cI cZ cJ) [.ref (q 0), .int n4] (emW cI cZ q K V ord lf thrown w (S * w + w) fed r (fed - r * w) reading gone current key value many sum least most) sz (fun res (_ : Unit) => res = 0) (fun _ => emW cI cZ q K V ord lf 1 w (S * w + w) fed r (fed - r * w) reading gone current key value many sum least most) := by
  refine MetI.of (by decide) (Nat.le_of_ble_eq_true rfl) ?_
  intro p e s m below meth c A ls C hnm hA hw hl
  have hx := C.1.1
  have hb := C.1.2.1
  have hl : lv_has ls 2 [(0, .ref (q 0)), (1, .int n4)] := hl
  refine lv_aload_n hx hb d_EM_count_0 rfl (lv_at hl 0 rfl) ?_
  refine lv_iload_n hx hb d_EM_count_1 rfl (lv_at hl 1 rfl) ?_
  refine lv_if_lt (tgt := 10) hx hb d_EM_count_2 (by decide) (fun h2 => ?_) (fun h2 => ?_)
  · refine lv_iconst (v := 1) hx hb d_EM_count_10 (by decide) ?_
    refine lv_goto (tgt := 15) hx hb d_EM_count_11 (by decide) ?_
    refine em_put C hw rfl lk_EM_0 rfl rfl rfl (Nat.le_of_ble_eq_true rfl) (W1 := emW cI cZ q K V ord lf 1 w (S * w + w) fed r (fed - r * w) reading gone current key value many sum least most) rfl d_EM_count_15 (fun H locs hw => ?_)
    refine lv_aload_n hx hb d_EM_count_18 rfl (lv_at hl 0 rfl) ?_
    refine em_get C hw rfl lk_EM_0 rfl d_EM_count_19 ?_
    refine lv_if_le (tgt := 27) hx hb d_EM_count_22 (by decide) (fun h22 => ?_) (fun h22 => ?_)
    · exact absurd h22 (by decide)
    · refine lv_iconst (v := 0) hx hb d_EM_count_25 (by decide) ?_
      exact zr_iret C () (rfl) hw d_EM_count_26
  · refine lv_iload_n hx hb d_EM_count_5 rfl (lv_at hl 1 rfl) ?_
    refine lv_iconst (v := 3) hx hb d_EM_count_6 (by decide) ?_
    refine lv_icmp_le (tgt := 14) hx hb d_EM_count_7 (by decide) (fun h7 => ?_) (fun h7 => ?_)
    · exact absurd hn (fun z => z.elim h2 (Int32.not_lt.mpr h7))
    · refine lv_iconst (v := 1) hx hb d_EM_count_10 (by decide) ?_
      refine lv_goto (tgt := 15) hx hb d_EM_count_11 (by decide) ?_
      refine em_put C hw rfl lk_EM_0 rfl rfl rfl (Nat.le_of_ble_eq_true rfl) (W1 := emW cI cZ q K V ord lf 1 w (S * w + w) fed r (fed - r * w) reading gone current key value many sum least most) rfl d_EM_count_15 (fun H locs hw => ?_)
      refine lv_aload_n hx hb d_EM_count_18 rfl (lv_at hl 0 rfl) ?_
      refine em_get C hw rfl lk_EM_0 rfl d_EM_count_19 ?_
      refine lv_if_le (tgt := 27) hx hb d_EM_count_22 (by decide) (fun h22 => ?_) (fun h22 => ?_)
      · exact absurd h22 (by decide)
      · refine lv_iconst (v := 0) hx hb d_EM_count_25 (by decide) ?_
        exact zr_iret C () (rfl) hw d_EM_count_26
set_option maxHeartbeats 4000000 in
set_option maxRecDepth 100000 in
theorem c_EM_count_0  : MetI l y_EM_count b_EM_count 2 (some .int) (rmF 1 23) D (tyL cI cZ cJ) [.ref (q 0), .int (nI 0)] (emW cI cZ q K V ord lf thrown w (S * w + w) fed r (fed - r * w) reading gone current key value many sum least most) sz (fun res (_ : Unit) => res = nI (fed)) (fun _ => emW cI cZ q K V ord lf 0 w (S * w + w) fed r (fed - r * w) reading gone current key value many sum least most) := by
  refine MetI.of (by decide) (Nat.le_of_ble_eq_true rfl) ?_
  intro p e s m below meth c A ls C hnm hA hw hl
  have hx := C.1.1
  have hb := C.1.2.1
  have hl : lv_has ls 2 [(0, .ref (q 0)), (1, .int (nI 0))] := hl
  refine lv_aload_n hx hb d_EM_count_0 rfl (lv_at hl 0 rfl) ?_
  refine lv_iload_n hx hb d_EM_count_1 rfl (lv_at hl 1 rfl) ?_
  refine lv_if_lt (tgt := 10) hx hb d_EM_count_2 (by decide) (fun h2 => ?_) (fun h2 => ?_)
  · exact absurd h2 (by decide)
  · refine lv_iload_n hx hb d_EM_count_5 rfl (lv_at hl 1 rfl) ?_
    refine lv_iconst (v := nI 3) hx hb d_EM_count_6 (by decide) ?_
    refine lv_icmp_le (tgt := 14) hx hb d_EM_count_7 (by decide) (fun h7 => ?_) (fun h7 => ?_)
    · refine lv_iconst (v := 0) hx hb d_EM_count_14 (by decide) ?_
      refine em_put C hw rfl lk_EM_0 rfl rfl rfl (Nat.le_of_ble_eq_true rfl) (W1 := emW cI cZ q K V ord lf 0 w (S * w + w) fed r (fed - r * w) reading gone current key value many sum least most) rfl d_EM_count_15 (fun H locs hw => ?_)
      refine lv_aload_n hx hb d_EM_count_18 rfl (lv_at hl 0 rfl) ?_
      refine em_get C hw rfl lk_EM_0 rfl d_EM_count_19 ?_
      refine lv_if_le (tgt := 27) hx hb d_EM_count_22 (by decide) (fun h22 => ?_) (fun h22 => ?_)
      · refine lv_iload_n hx hb d_EM_count_27 rfl (lv_at hl 1 rfl) ?_
        refine lv_tableIn (tgt := 56) hx hb d_EM_count_28 (by decide) (by decide) rfl (by decide) ?_
        refine lv_aload_n hx hb d_EM_count_56 rfl (lv_at hl 0 rfl) ?_
        refine em_get C hw rfl lk_EM_3 rfl d_EM_count_57 ?_
        exact zr_iret C () (rfl) hw d_EM_count_60
      · exact absurd (by decide) h22
    · exact absurd (by decide) h7
set_option maxHeartbeats 4000000 in
set_option maxRecDepth 100000 in
theorem c_EM_count_1  : MetI l y_EM_count b_EM_count 2 (some .int) (rmF 1 23) D (tyL cI cZ cJ) [.ref (q 0), .int (nI 1)] (emW cI cZ q K V ord lf thrown w (S * w + w) fed r (fed - r * w) reading gone current key value many sum least most) sz (fun res (_ : Unit) => res = nI (r * w)) (fun _ => emW cI cZ q K V ord lf 0 w (S * w + w) fed r (fed - r * w) reading gone current key value many sum least most) := by
  refine MetI.of (by decide) (Nat.le_of_ble_eq_true rfl) ?_
  intro p e s m below meth c A ls C hnm hA hw hl
  have hx := C.1.1
  have hb := C.1.2.1
  have hl : lv_has ls 2 [(0, .ref (q 0)), (1, .int (nI 1))] := hl
  refine lv_aload_n hx hb d_EM_count_0 rfl (lv_at hl 0 rfl) ?_
  refine lv_iload_n hx hb d_EM_count_1 rfl (lv_at hl 1 rfl) ?_
  refine lv_if_lt (tgt := 10) hx hb d_EM_count_2 (by decide) (fun h2 => ?_) (fun h2 => ?_)
  · exact absurd h2 (by decide)
  · refine lv_iload_n hx hb d_EM_count_5 rfl (lv_at hl 1 rfl) ?_
    refine lv_iconst (v := nI 3) hx hb d_EM_count_6 (by decide) ?_
    refine lv_icmp_le (tgt := 14) hx hb d_EM_count_7 (by decide) (fun h7 => ?_) (fun h7 => ?_)
    · refine lv_iconst (v := 0) hx hb d_EM_count_14 (by decide) ?_
      refine em_put C hw rfl lk_EM_0 rfl rfl rfl (Nat.le_of_ble_eq_true rfl) (W1 := emW cI cZ q K V ord lf 0 w (S * w + w) fed r (fed - r * w) reading gone current key value many sum least most) rfl d_EM_count_15 (fun H locs hw => ?_)
      refine lv_aload_n hx hb d_EM_count_18 rfl (lv_at hl 0 rfl) ?_
      refine em_get C hw rfl lk_EM_0 rfl d_EM_count_19 ?_
      refine lv_if_le (tgt := 27) hx hb d_EM_count_22 (by decide) (fun h22 => ?_) (fun h22 => ?_)
      · refine lv_iload_n hx hb d_EM_count_27 rfl (lv_at hl 1 rfl) ?_
        refine lv_tableIn (tgt := 61) hx hb d_EM_count_28 (by decide) (by decide) rfl (by decide) ?_
        refine lv_aload_n hx hb d_EM_count_61 rfl (lv_at hl 0 rfl) ?_
        refine em_get C hw rfl lk_EM_4 rfl d_EM_count_62 ?_
        refine lv_aload_n hx hb d_EM_count_65 rfl (lv_at hl 0 rfl) ?_
        refine em_get C hw rfl lk_EM_1 rfl d_EM_count_66 ?_
        refine zr_mul hx hb d_EM_count_69 ?_
        exact zr_iret C () (rfl) hw d_EM_count_70
      · exact absurd (by decide) h22
    · exact absurd (by decide) h7
set_option maxHeartbeats 4000000 in
set_option maxRecDepth 100000 in
theorem c_EM_count_2  : MetI l y_EM_count b_EM_count 2 (some .int) (rmF 1 23) D (tyL cI cZ cJ) [.ref (q 0), .int (nI 2)] (emW cI cZ q K V ord lf thrown w (S * w + w) fed r (fed - r * w) reading gone current key value many sum least most) sz (fun res (_ : Unit) => res = nI (gone)) (fun _ => emW cI cZ q K V ord lf 0 w (S * w + w) fed r (fed - r * w) reading gone current key value many sum least most) := by
  refine MetI.of (by decide) (Nat.le_of_ble_eq_true rfl) ?_
  intro p e s m below meth c A ls C hnm hA hw hl
  have hx := C.1.1
  have hb := C.1.2.1
  have hl : lv_has ls 2 [(0, .ref (q 0)), (1, .int (nI 2))] := hl
  refine lv_aload_n hx hb d_EM_count_0 rfl (lv_at hl 0 rfl) ?_
  refine lv_iload_n hx hb d_EM_count_1 rfl (lv_at hl 1 rfl) ?_
  refine lv_if_lt (tgt := 10) hx hb d_EM_count_2 (by decide) (fun h2 => ?_) (fun h2 => ?_)
  · exact absurd h2 (by decide)
  · refine lv_iload_n hx hb d_EM_count_5 rfl (lv_at hl 1 rfl) ?_
    refine lv_iconst (v := nI 3) hx hb d_EM_count_6 (by decide) ?_
    refine lv_icmp_le (tgt := 14) hx hb d_EM_count_7 (by decide) (fun h7 => ?_) (fun h7 => ?_)
    · refine lv_iconst (v := 0) hx hb d_EM_count_14 (by decide) ?_
      refine em_put C hw rfl lk_EM_0 rfl rfl rfl (Nat.le_of_ble_eq_true rfl) (W1 := emW cI cZ q K V ord lf 0 w (S * w + w) fed r (fed - r * w) reading gone current key value many sum least most) rfl d_EM_count_15 (fun H locs hw => ?_)
      refine lv_aload_n hx hb d_EM_count_18 rfl (lv_at hl 0 rfl) ?_
      refine em_get C hw rfl lk_EM_0 rfl d_EM_count_19 ?_
      refine lv_if_le (tgt := 27) hx hb d_EM_count_22 (by decide) (fun h22 => ?_) (fun h22 => ?_)
      · refine lv_iload_n hx hb d_EM_count_27 rfl (lv_at hl 1 rfl) ?_
        refine lv_tableIn (tgt := 71) hx hb d_EM_count_28 (by decide) (by decide) rfl (by decide) ?_
        refine lv_aload_n hx hb d_EM_count_71 rfl (lv_at hl 0 rfl) ?_
        refine em_get C hw rfl lk_EM_7 rfl d_EM_count_72 ?_
        exact zr_iret C () (rfl) hw d_EM_count_75
      · exact absurd (by decide) h22
    · exact absurd (by decide) h7
set_option maxHeartbeats 4000000 in
set_option maxRecDepth 100000 in
theorem c_EM_count_3f  : MetI l y_EM_count b_EM_count 2 (some .int) (rmF 1 23) D (tyL cI cZ cJ) [.ref (q 0), .int (nI 3)] (emW cI cZ q K V ord lf thrown w (S * w + w) fed r (fed - r * w) false gone current key value many sum least most) sz (fun res (_ : Unit) => res = nI r) (fun _ => emW cI cZ q K V ord lf 0 w (S * w + w) fed r (fed - r * w) false gone current key value many sum least most) := by
  refine MetI.of (by decide) (Nat.le_of_ble_eq_true rfl) ?_
  intro p e s m below meth c A ls C hnm hA hw hl
  have hx := C.1.1
  have hb := C.1.2.1
  have hl : lv_has ls 2 [(0, .ref (q 0)), (1, .int (nI 3))] := hl
  refine lv_aload_n hx hb d_EM_count_0 rfl (lv_at hl 0 rfl) ?_
  refine lv_iload_n hx hb d_EM_count_1 rfl (lv_at hl 1 rfl) ?_
  refine lv_if_lt (tgt := 10) hx hb d_EM_count_2 (by decide) (fun h2 => ?_) (fun h2 => ?_)
  · exact absurd h2 (by decide)
  · refine lv_iload_n hx hb d_EM_count_5 rfl (lv_at hl 1 rfl) ?_
    refine lv_iconst (v := nI 3) hx hb d_EM_count_6 (by decide) ?_
    refine lv_icmp_le (tgt := 14) hx hb d_EM_count_7 (by decide) (fun h7 => ?_) (fun h7 => ?_)
    · refine lv_iconst (v := 0) hx hb d_EM_count_14 (by decide) ?_
      refine em_put C hw rfl lk_EM_0 rfl rfl rfl (Nat.le_of_ble_eq_true rfl) (W1 := emW cI cZ q K V ord lf 0 w (S * w + w) fed r (fed - r * w) false gone current key value many sum least most) rfl d_EM_count_15 (fun H locs hw => ?_)
      refine lv_aload_n hx hb d_EM_count_18 rfl (lv_at hl 0 rfl) ?_
      refine em_get C hw rfl lk_EM_0 rfl d_EM_count_19 ?_
      refine lv_if_le (tgt := 27) hx hb d_EM_count_22 (by decide) (fun h22 => ?_) (fun h22 => ?_)
      · refine lv_iload_n hx hb d_EM_count_27 rfl (lv_at hl 1 rfl) ?_
        refine lv_tableOut (tgt := 76) hx hb d_EM_count_28 (by decide) (by decide) ?_
        refine lv_aload_n hx hb d_EM_count_76 rfl (lv_at hl 0 rfl) ?_
        refine em_get C hw rfl lk_EM_6 rfl d_EM_count_77 ?_
        refine zr_beq hx hb (tgt := 90) d_EM_count_80 (by decide) (fun h80 => ?_) (fun h80 => ?_)
        · refine lv_aload_n hx hb d_EM_count_90 rfl (lv_at hl 0 rfl) ?_
          refine em_get C hw rfl lk_EM_4 rfl d_EM_count_91 ?_
          exact zr_iret C () (rfl) hw d_EM_count_94
        · exact absurd h80 (by decide)
      · exact absurd (by decide) h22
    · exact absurd (by decide) h7
set_option maxHeartbeats 4000000 in
set_option maxRecDepth 100000 in
theorem c_EM_count_3t (hf : fed ≤ 2064) (ho : ∀ i, i < fed → ord i = ordf K fed i) (hc : gone ≤ fed) (hw0 : 0 < w) (hwb : w ≤ 64) : MetI l y_EM_count b_EM_count 2 (some .int) (rmF 1 23) D (tyL cI cZ cJ) [.ref (q 0), .int (nI 3)] (emW cI cZ q K V ord lf thrown w (S * w + w) fed r (fed - r * w) true gone current key value many sum least most) sz (fun res (_ : Nat → Bool) => res = nI (cntB (leftB K fed gone w) fed)) (fun lf => emW cI cZ q K V ord lf 0 w (S * w + w) fed r (fed - r * w) true gone current key value many sum least most) := by
  refine MetI.of (by decide) (Nat.le_of_ble_eq_true rfl) ?_
  intro p e s m below meth c A ls C hnm hA hw hl
  have hx := C.1.1
  have hb := C.1.2.1
  have hl : lv_has ls 2 [(0, .ref (q 0)), (1, .int (nI 3))] := hl
  refine lv_aload_n hx hb d_EM_count_0 rfl (lv_at hl 0 rfl) ?_
  refine lv_iload_n hx hb d_EM_count_1 rfl (lv_at hl 1 rfl) ?_
  refine lv_if_lt (tgt := 10) hx hb d_EM_count_2 (by decide) (fun h2 => ?_) (fun h2 => ?_)
  · exact absurd h2 (by decide)
  · refine lv_iload_n hx hb d_EM_count_5 rfl (lv_at hl 1 rfl) ?_
    refine lv_iconst (v := nI 3) hx hb d_EM_count_6 (by decide) ?_
    refine lv_icmp_le (tgt := 14) hx hb d_EM_count_7 (by decide) (fun h7 => ?_) (fun h7 => ?_)
    · refine lv_iconst (v := 0) hx hb d_EM_count_14 (by decide) ?_
      refine em_put C hw rfl lk_EM_0 rfl rfl rfl (Nat.le_of_ble_eq_true rfl) (W1 := emW cI cZ q K V ord lf 0 w (S * w + w) fed r (fed - r * w) true gone current key value many sum least most) rfl d_EM_count_15 (fun H locs hw => ?_)
      refine lv_aload_n hx hb d_EM_count_18 rfl (lv_at hl 0 rfl) ?_
      refine em_get C hw rfl lk_EM_0 rfl d_EM_count_19 ?_
      refine lv_if_le (tgt := 27) hx hb d_EM_count_22 (by decide) (fun h22 => ?_) (fun h22 => ?_)
      · refine lv_iload_n hx hb d_EM_count_27 rfl (lv_at hl 1 rfl) ?_
        refine lv_tableOut (tgt := 76) hx hb d_EM_count_28 (by decide) (by decide) ?_
        refine lv_aload_n hx hb d_EM_count_76 rfl (lv_at hl 0 rfl) ?_
        refine em_get C hw rfl lk_EM_6 rfl d_EM_count_77 ?_
        refine zr_beq hx hb (tgt := 90) d_EM_count_80 (by decide) (fun h80 => ?_) (fun h80 => ?_)
        · exact absurd h80 (by decide)
        · refine lv_aload_n hx hb d_EM_count_83 rfl (lv_at hl 0 rfl) ?_
          refine zr_calli0 (As := []) (rest := []) C hA hw hl.1 g_EM_EM_runsLeft (c_EM_runsLeft hf ho hc hw0 hwb) h_EM_runsLeft ⟨Nat.le_of_ble_eq_true rfl, Nat.le_of_ble_eq_true rfl⟩ rfl rfl rfl (Nat.le_of_ble_eq_true rfl) d_EM_count_84 ⟨rfl, rfl⟩ ⟨Nat.zero_le _, Nat.zero_le _⟩ (fun r1 lf H locs hres hw => ?_)
          refine lv_goto (tgt := 94) hx hb d_EM_count_87 (by decide) ?_
          exact zr_iret C lf hres hw d_EM_count_94
      · exact absurd (by decide) h22
    · exact absurd (by decide) h7
end EM1
end
section
/-! ===== methods that throw new IllegalArgumentException(), and callers that catch it ===== -/
abbrev iaeN : String := "java/lang/IllegalArgumentException"
abbrev thrN : String := "java/lang/Throwable"
def thrNames : List String := ["java/lang/RuntimeException", "java/lang/Exception"]
/-- what the making of the exception asks of a state beside the tables' words that ride -/
def thrA : List Cond := [.declares ⟨"java/lang/RuntimeException", "<init>", "()V"⟩, .declares ⟨"java/lang/Exception", "<init>", "()V"⟩, .declares ⟨thrN, "<init>", "()V"⟩, .castable iaeN iaeN, .laysStatic thrN "UNASSIGNED_STACK" "[Ljava/lang/StackTraceElement;", .laysStatic thrN "SUPPRESSED_SENTINEL" "Ljava/util/List;", .isRef (.static thrN "UNASSIGNED_STACK" "[Ljava/lang/StackTraceElement;"), .isRef (.static thrN "SUPPRESSED_SENTINEL" "Ljava/util/List;")]
theorem thr_in : ∀ a ∈ Bundle.ownAtoms0 R_ES 91 iaeN thrNames, a ∈ tb ∨ a ∈ thrA := by decide +kernel
def TA (U : State) : Prop := ∀ w ∈ thrA, w.before #[] U = true
theorem TA.use {U : State} (h : TA U) (args : Array Value) : ∀ w ∈ thrA, w.before args U = true := by
  intro w hw
  have h1 := h w hw
  simp only [thrA, List.mem_cons, List.not_mem_nil, or_false] at hw
  rcases hw with rfl | rfl | rfl | rfl | rfl | rfl | rfl | rfl <;> exact h1
theorem static_ext {C n d : String} {s U : State} (hvm : U.vm = s.vm) (hH : ∀ (q : Nat) (cell : Cell), s.heap[q]? = some cell → U.heap[q]? = some cell) (h : (Cond.isRef (.static C n d)).before #[] s = true) : (Cond.isRef (.static C n d)).before #[] U = true := by
  have key : ∀ v, (Term.static C n d).eval #[] s none [] s = some v → (Term.static C n d).eval #[] U none [] U = some v := by
    intro v hv
    simp only [Term.eval, Option.bind_eq_bind, Option.bind_eq_some_iff] at hv ⊢
    obtain ⟨⟨c, k, slot⟩, h1, a, h2, cell, h3, h4⟩ := hv
    refine ⟨(c, k, slot), ?_, a, h2, cell, hH a cell h3, h4⟩
    rw [← h1]
    simp only [State.fieldNamed?, State.fieldFound?, hvm]
  simp only [Cond.before, Cond.holds, Cond.value] at h ⊢
  cases hv : (Term.static C n d).eval #[] s none [] s with
  | none => rw [hv] at h; exact absurd h (by simp)
  | some v => rw [key v hv]; rw [hv] at h; exact h
theorem lays_ext {C n d : String} {s U : State} (hvm : U.vm = s.vm) (hH : ∀ (q : Nat) (cell : Cell), s.heap[q]? = some cell → U.heap[q]? = some cell) (h : (Cond.laysStatic C n d).before #[] s = true) : (Cond.laysStatic C n d).before #[] U = true := by
  obtain ⟨c2, k2, i2, f2, a, cell, hc2, hf2, hst, hsta, hcell, hiss, hcls, hlt, hty⟩ := Cond.laysStatic_spec h
  have e1 : U.vm.findClass C = some c2 := by rw [hvm]; exact hc2
  have e2 : U.fieldFound? C n d = some (c2, k2, i2, f2) := by rw [← hf2]; simp only [State.fieldFound?, hvm]
  have e3 := hH a cell hcell
  simp [Cond.before, Cond.holds, Cond.value, e1, e2, hst, hsta, e3, hiss, hcls, hlt, hty]
theorem TA.ext {s U : State} (h : TA s) (hW : s.WarmedH U.vm) (hH : ∀ (q : Nat) (cell : Cell), s.heap[q]? = some cell → U.heap[q]? = some cell) : TA U := by
  have face : ∀ w : Cond, w.keepsFace = true → w.onTables = true → w.before #[] s = true → w.before #[] U = true := by
    intro w h1 h2 h3
    have h4 := Cond.before_shiftedFace (args := #[]) (State.Shifted.of_warmed hW) w h1 h3
    have h5 := Cond.onTables_vm (A := #[]) (A' := #[]) (U := s) (U' := U) U.vm w h2
    rw [h5] at h4
    exact h4
  have keep : ∀ w : Cond, w.keeps = true → w.before #[] s = true → w.before #[] (s.setVm U.vm) = true := fun w h1 h2 => Cond.holds_shifted (args := #[]) (State.Shifted.of_warmed hW) w [] h1 h2
  intro w hw
  have h1 := h w hw
  simp only [thrA, List.mem_cons, List.not_mem_nil, or_false] at hw
  rcases hw with rfl | rfl | rfl | rfl | rfl | rfl | rfl | rfl
  · exact face _ rfl rfl h1
  · exact face _ rfl rfl h1
  · exact face _ rfl rfl h1
  · exact face _ rfl rfl h1
  · exact lays_ext (s := s.setVm U.vm) rfl hH (keep _ rfl h1)
  · exact lays_ext (s := s.setVm U.vm) rfl hH (keep _ rfl h1)
  · exact static_ext (s := s.setVm U.vm) rfl hH (keep _ rfl h1)
  · exact static_ext (s := s.setVm U.vm) rfl hH (keep _ rfl h1)
/-- how a method ends that has thrown the exception: one new cell of six slots, all else as it was -/
def Tpost (st : State) (o : Outcome) (t : State) : Prop := ∃ (x : Addr) (ce : Cell), o = .threw x ∧ st.WarmedH t.vm ∧ st.sameButNew ({ t with vm := st.vm } : State) [] 1 6 ∧ t.heap[x]? = some ce ∧ st.vm.findClass iaeN = some ce.cls ∧ ce.vm = .none
def TQ (below : List Frame) (s : State) : State → Prop := fun t => ∃ o, t.status = .running ∧ Ended t below o ∧ Tpost s o t
def MetT (l : Launch) (y : MethodName) (b : ByteArray) (n : Nat) (rt : Option FieldType) (rm : Room) (av : List Value) : Prop :=
  MetFree l y (headSpec (wd y b n rt) rm) (va_Pc av TA) (fun _ _ _ _ _ => True) (fun _ st o t => Tpost st o t)
theorem MetT.of {l : Launch} {y : MethodName} {b : ByteArray} {n : Nat} {rt : Option FieldType} {rm : Room} {av : List Value} (hy : plainName y.cls = true) (hav : (lg_sl av).length ≤ n)
    (body : ∀ (p : Program) (e : Env) (s : State) (m : MethodId) (below : List Frame) (meth : Method) (c : Code) (ls : Array Slot), Cx p m meth c b n rt s av.toArray y.cls → c.exceptionTable.isEmpty = true → TA s → lv_has ls n (lv_args 0 av) →
      W p l e rm s m av.toArray below meth c s.heap [] 0 0 (TQ below s) (F0 m 0 ls [])) : MetT l y b n rt rm av := by
  refine MetFree.of_bodyS (code := b) (maxLocals := n) (ret := rt) hy ?_ ?_
  · intro args s m h hn
    obtain ⟨meth, c, h1, h2, h3, h4, h5, h6, -, -⟩ := Cond.code_spec hn (atoms_spec (ws := wd y b n rt) h _ List.mem_cons_self)
    exact ⟨meth, c, h1, h2, h3, h4, h5, h6⟩
  · intro p e s m args below meth c s₁ B hml hP _
    obtain ⟨rfl, hTA⟩ := hP
    have hh0 : s₁.heap = s.heap := by rw [B.state]; rfl
    have hts := atoms_spec (ws := wd y b n rt) B.pre
    have hown : s.vm.findClass y.cls = some m.cls := findClass_of_methodNamed B.named
    have hne := B.noHandlers (hts _ List.mem_cons_self)
    have K := body p e s m below meth c _ ⟨⟨B.exec, B.bytes, hml, hown, fun w hw => hts w (List.mem_cons_of_mem _ hw)⟩, B.returns, B.notSynchronized⟩ hne hTA (lv_entry av hav)
    rw [← lg_entry_eq] at K
    obtain ⟨t, a1, o, b1, b2, b3⟩ := K s₁ hh0 (Stand.of_body B)
    exact ⟨t, o, a1, b1, b2, b3⟩
section ZT
variable {p : Program} {l : Launch} {e : Env} {R : Room} {s : State} {m : MethodId} {args : Array Value} {below : List Frame} {meth : Method} {c : Code} {H : Heap} {locs : List Loc} {cells slots : Nat} {Q : State → Prop}
variable {cc : ByteArray} {pc nL : Nat} {rt : Option FieldType} {ls : Array Slot} {rest : List Value} {D : va_G} {A : Nat → Prop} {tys : List (ClassId × FieldType)} {W0 : va_W} {own : String}
/-- new IllegalArgumentException; dup; its <init>; athrow -/
theorem zr_throw (hfl : l.flags = pinnedFlags ++ [noTraceFlag]) (C : Cx p m meth c cc nL rt s args R_ES) (hne : c.exceptionTable.isEmpty = true) (hTA : TA s) (hls : ls.size = nL) (hd1 : decode cc pc = .ok (.new 89, 3)) (hd2 : decode cc (pc + 3) = .ok (.dup, 1)) (hd3 : decode cc (pc + 4) = .ok (.invokespecial 91, 3)) (hd4 : decode cc (pc + 7) = .ok (.athrow, 1))
    (hRf : 6 ≤ R.frames) (hRl : 81 ≤ R.locals) (hRc : 1 ≤ R.cells) (hRs : 6 ≤ R.slots) : W p l e R s m args below meth c s.heap [] 0 0 (TQ below s) (F0 m pc ls []) := by
  obtain ⟨⟨hx, hb, hml, hown, hts⟩, hr, hlocks⟩ := C
  have hinst := hts (.instantiable iaeN 6) (by decide +kernel)
  obtain ⟨cC, kC0, hfc, hk0, -⟩ := Cond.instantiable_spec hinst
  refine W.newcK hx hb hown (hts (.classLink R_ES 89 iaeN) (by decide +kernel)) hinst (hts (.initialized iaeN) (by decide +kernel)) rfl hd1 (by omega) (by omega) hfc rfl fun H1 kC hkC e1 z1 o1 => ?_
  refine lv_dup hx hb hd2 rfl ?_
  intro T hT X
  have htr : e.platform.stackTraces = false := Launch.traces_off hfl X.admits
  subst hb
  obtain ⟨U, st, hrun, hend, hWU, hsame, ce, hce, hown2⟩ := X.ctorThrow0 (names := thrNames) (cls := iaeN) (own := R_ES) (ic := 91) hx htr hown (by decide) (by decide)
    (fun w hw => by
      rcases thr_in w hw with h | h
      · exact hts w h
      · exact hTA.use args w h)
    (fun q hq => by cases hq) (a := s.heap.size) hfc hkC (by rw [hT]; exact e1) (Nat.le_refl _) (g := F0 m (pc + 4) ls [.ref s.heap.size, .ref s.heap.size]) rfl (hls.trans hml.symm) rfl rfl (rest := []) rfl hd3 hd4
    (fun q hq => by
      have h9 : c.exceptionTable.toList = [] := by
        have := Array.isEmpty_iff.mp hne
        rw [this]
      rw [h9] at hq; cases hq)
    (by simp only [thrNames, List.length_cons, List.length_nil]; omega)
    (by simp only [thrNames, List.length_cons, List.length_nil, List.map_cons, List.map_nil, List.sum_cons, List.sum_nil, Value.category]; show 2 * 0 + _ + _ ≤ _; omega) hlocks
  refine ⟨U, st, .threw s.heap.size, hrun, hend, s.heap.size, ce, rfl, hWU, ?_, hce, hown2.cls, hown2.vm⟩
  exact hsame.mono (by omega) (by omega)
end ZT
end
section
/-! ===== a call that throws, caught in the caller ===== -/
/-- the search for a handler finds the only entry; its class is resolved by the way -/
theorem find_one {e : Env} {s : State} {f : JFrame} {a : Addr} {meth : Method} {code : Code} {x : ExceptionTableEntry} {cT : ClassId} {vm' : Vm} {cell : Cell} (hm : s.vm.method? f.method = some meth) (hc : meth.code = some code) (ht : code.exceptionTable.toList = [x]) (hx : covers x f.pc = true) (h0 : x.catchType ≠ 0)
    (hg : (resolveClass f.method.cls x.catchType).Gives e.toSetting s.vm (.ok cT) vm') (hsz : vm'.classes.size ≤ s.vm.classes.size) (hcell : s.heap[a]? = some cell) (hobj : ∀ k, cell.vm ≠ .statics k) (hk : ∃ k, vm'.classes[cell.cls]? = some k) (hcl : ∃ k, vm'.classes[cT]? = some k) (hfit : vm'.assignable cell.cls cT = true) :
    ∀ (Q : Handler → Pre) (E : CtlPost) (d : Bool) (acts : List Action), wp (findHandler f a) Q E e d acts s ↔ Q (.found x.handlerPc) d acts (s.setVm vm') := by
  intro Q E d acts
  rw [W.findHandler_eq hm hc, ht]
  have hop : (VmOp.resolveClass f.method.cls x.catchType).answer e s.vm = .ok cT ∧ (VmOp.resolveClass f.method.cls x.catchType).tables e s.vm = vm' := hg.op rfl
  have hl : (VmOp.resolveClass f.method.cls x.catchType).lands e s = .done (s.setVm vm') := by rw [VmOp.lands_same (by rw [hop.2]; exact hsz), hop.2]
  simp only [covers] at hx
  simp [findHandler.go, hx, h0, hl, hop.1, hcell, hobj, hk, hcl, hfit, VmOp.dirties, VmOp.acts]
theorem caught_one {tb : Tables} {e : Env} {s target : State} {g : JFrame} {c : Code} {below : List Frame} {a : Addr} {pc : Nat} {vm' : Vm} (h : At s g.method c below)
    (hfind : ∀ (Q : Handler → Pre) (E : CtlPost) (d : Bool) (acts : List Action), wp (findHandler g a) Q E e d acts ((s.setTop g).pushFrame (.throwing a)) ↔ Q (.found pc) d acts (((s.setTop g).pushFrame (.throwing a)).setVm vm'))
    (hrest : Steps tb e below ((s.setVm vm').setTop { g with pc := pc, stack := [.ref a] }) target) : Steps tb e below ((s.setTop g).pushFrame (.throwing a)) target := by
  obtain ⟨hgo, hw⟩ := h.throwing a
  refine Steps.head hgo hw ?_
  obtain ⟨g₀, hg⟩ := Option.isSome_iff_exists.mp h.top
  obtain ⟨r, hr⟩ := State.topJava?_eq_some.mp hg
  have hstep : ∀ r' : List Frame, (stepThrowing e ((s.setTop g).pushFrame (.throwing a)) a (.java g :: r')).Is ((((s.setTop g).pushFrame (.throwing a)).setVm vm').setFrames (.java { g with pc := pc, stack := [.ref a] } :: r')) [] := by
    intro r'
    simp only [stepThrowing, searchFrame, vmDo]
    generalize hr : Sem.go _ e false [] _ = res
    obtain ⟨as, rfl, ha⟩ := Sem.eq_ok_of hr (a := Handler.found pc) (s' := ((s.setTop g).pushFrame (.throwing a)).setVm vm') (acts' := []) (by simp [hfind _ _ _ _])
    exact ⟨rfl, ha⟩
  rw [stepThread_throwing (frames_entered h.top _), (hstep _).1]
  have e1 : ((s.setTop g).pushFrame (.throwing a)).setVm vm' = ((s.setVm vm').setTop g).pushFrame (.throwing a) := by
    have hr' : (s.setVm vm').frames = .java g₀ :: r := hr
    rw [State.setTop_of_frames _ hr, State.setTop_of_frames _ hr']
    simp only [State.pushFrame]
    rfl
  have hr' : (s.setVm vm').frames = .java g₀ :: r := hr
  rw [e1, State.pushFrame, State.setFrames_setFrames, State.setTop_of_frames _ hr', State.setFrames_setFrames]
  rw [State.setTop_of_frames _ hr'] at hrest
  rw [hr]
  exact hrest
section ZC
variable {p : Program} {l : Launch} {e : Env} {R : Room} {s : State} {m : MethodId} {args : Array Value} {below : List Frame} {meth : Method} {c : Code} {H : Heap} {locs : List Loc} {cells slots : Nat} {Q : State → Prop}
variable {cc : ByteArray} {pc nL : Nat} {rt : Option FieldType} {ls : Array Slot} {rest : List Value} {own : String}
theorem zr_callT {y : MethodName} {b : ByteArray} {n : Nat} {rt' : Option FieldType} {rm : Room} {a : Nat} {As st0 : List Value} {idx s0 e0 hp ct : Nat} (C : Cx p m meth c cc nL rt s args own) (htab : c.exceptionTable.toList.map (fun h => (h.startPc, h.endPc, h.handlerPc, h.catchType)) = [(s0, e0, hp, ct)]) (hcov : s0 ≤ pc ∧ pc < e0) (hct : ct ≠ 0) (hlk : Cond.classLink own ct iaeN ∈ tb)
    (hM : MetT l y b n rt' rm (.ref a :: As)) (hg : GoodIn tb (wsV own idx y.cls y (wd y b n rt'))) (hd : y.cls ≠ "java/lang/invoke/MethodHandle" ∧ y.cls ≠ "java/lang/invoke/VarHandle" ∧ (parseMethodDescriptor y.desc).map (fun d => d.parameters.length) = some As.length) (hrm : rm.frames + 1 ≤ R.frames ∧ 8 + (n + 11) + rm.locals ≤ R.locals) (hrc : rm.cells = 1 ∧ rm.slots = 6) (hls : ls.size = nL)
    (hrec : ∃ cell : Cell, H[a]? = some cell ∧ cell.vm.isStatics = false ∧ s.vm.findClass y.cls = some cell.cls) (hTA : ∀ U : State, U.heap = H → s.WarmedH U.vm → TA U) (hst : st0 = As.reverse ++ .ref a :: rest) (hro : (rest.map fun v => v.category).sum ≤ 8) (hdg : decode cc pc = .ok (.invokevirtual idx, 3)) (hf : cells + 1 ≤ R.cells ∧ slots + 6 ≤ R.slots)
    (kk : ∀ (x : Nat) (H1 : Heap), H.size ≤ H1.size → (∀ (q : Nat) (cell : Cell), H[q]? = some cell → H1[q]? = some cell) → W p l e R s m args below meth c H1 locs (cells + 1) (slots + 6) Q (F0 m hp ls [.ref x])) : W p l e R s m args below meth c H locs cells slots Q (F0 m pc ls st0) := by
  subst hst
  obtain ⟨⟨hx, hb, hml, hown, hts⟩, hr, hlocks⟩ := C
  have ok : ∀ w ∈ wsV own idx y.cls y (wd y b n rt'), w.before args s = true := fun w h => hts w (hg w h).1
  have hlink : (Cond.methodLink own idx y).before args s = true := ok _ (by simp [wsV])
  have hinst : (Cond.instanceMethod y).before args s = true := ok _ (by simp [wsV])
  have hsel : (Cond.selects y.cls y y).before args s = true := ok _ (by simp [wsV])
  have hini : (Cond.initialized y.cls).before args s = true := ok _ (by simp [wsV])
  have hcode : (Cond.code y b n rt').before args s = true := ok _ (by simp [wsV, wd])
  have hpay : ∀ w ∈ wd y b n rt', ∀ (a' : Array Value) (U : State), s.WarmedH U.vm → w.before a' U = true := pay_in hts (fun w h => hg w (by unfold wsV; exact List.mem_append_right _ h))
  subst hb
  intro T hT X
  have hpl : e.platform.magicAccessors = ({} : Platform).magicAccessors := by rw [X.admits.platform]
  obtain ⟨mk, methM, hnamed, hmethM, hstM, habM⟩ := Cond.instanceMethod_spec hinst
  obtain ⟨methM', cM, hmethM', hcM, hbM, hlM, -, -, -, hsigM⟩ := Cond.code_spec hnamed hcode
  cases hmethM.symm.trans hmethM'
  obtain ⟨c2, r2, m2, q1, q2, q3, q4, kP, hkP, hkPi⟩ := Cond.selects_spec hsel
  obtain ⟨cellB, hcB, hoB, hclB⟩ := hrec
  cases hclB.symm.trans q1
  cases (State.methodFound?_of_named hnamed ⟨hd.1, hd.2.1⟩).symm.trans q2
  cases hnamed.symm.trans q3
  have hselP : selectMethod e.platform s.vm cellB.cls mk = .method mk := by rw [Launch.admits_selectMethod X.admits]; exact q4
  have hlen : As.length = methM.sig.parameters.length := by
    have h2 := hd.2.2
    rw [hsigM] at h2
    exact (Option.some.inj h2).symm
  obtain ⟨vm₁, X₁, hstep₁⟩ := X.invokevirtual hx hown hlink hnamed hmethM hstM hkP hkPi ⟨hd.1, hd.2.1⟩ (a := a) (cell := cellB) (by rw [hT]; exact hcB)
    (fun z h => by rw [h] at hoB; cases hoB) hselP hmethM habM hkP hkPi (g := F0 m pc ls (As.reverse ++ .ref a :: rest)) rfl (argsL := As) (rest := rest) hlen rfl hdg
  -- the callee's run
  have hAt : At (T.setVm vm₁) m c below := X₁.here
  have hn1 : (T.setVm vm₁).methodNamed? y = some mk := X₁.named hnamed
  obtain ⟨methY, cY, hmY, hcY, -, hlY, -⟩ := Cond.code_spec hn1 (hpay _ List.mem_cons_self (Value.ref a :: As).toArray (T.setVm vm₁) X₁.warmed)
  obtain ⟨kY, hkY, -⟩ := className_of_methodNamed hn1
  have hinitY : kY.init = .initialized := Cond.initialized_spec (findClass_of_methodNamed hn1) hkY (word_at (a' := (Value.ref a :: As).toArray) (U := T.setVm vm₁) X₁.warmed (Or.inl rfl) hini)
  have happ : (headSpec (wd y b n rt') rm).appliesLoose y e.platform ((T.setVm vm₁).calling (F0 m pc ls rest) mk (Value.ref a :: As).toArray) = true :=
    Spec.appliesLoose_calling (g := F0 m pc ls rest) hAt hdg hn1 hkY hinitY
      (X₁.room_calling (g := F0 m pc ls rest) (R' := rm) (hls.trans hml.symm) hmY hcY hrm.1 (by rw [hlY]; have h9 : 2 * (F0 m pc ls rest).monitorRoom + ((F0 m pc ls rest).stack.map fun v => v.category).sum ≤ 8 := lv_room (m := m) (pc := pc) (ls := ls) (rest := rest) (st := rest) hro; omega) (by rw [hrc.1]; exact hf.1) (by rw [hrc.2]; exact hf.2))
      (atoms_intro fun w hw => hpay w hw _ _ X₁.warmed)
  obtain ⟨mid, hmid⟩ := hAt.above
  have hfr : ((T.setVm vm₁).setTop (F0 m pc ls rest)).frames = (.java (F0 m pc ls rest) :: mid) ++ below := by rw [State.frames_setTop' _ hAt.top, hmid]; rfl
  have hPa : va_Pc (.ref a :: As) TA (Value.ref a :: As).toArray ((T.setVm vm₁).calling (F0 m pc ls rest) mk (Value.ref a :: As).toArray) :=
    ⟨rfl, (hTA (T.setVm vm₁) hT X₁.warmed).ext (U := (T.setVm vm₁).calling (F0 m pc ls rest) mk (Value.ref a :: As).toArray) (State.WarmedH.refl (T.setVm vm₁)) (fun _ _ h => h)⟩
  obtain ⟨o, s₂, hsteps, -, hend, hq⟩ := Steps.callFree hM p X.admits X.cas X.clock (acts := []) hfr happ hPa trivial
  obtain ⟨x, ce, rfl, hW₂, hsame, hce, hcls, hcvm⟩ := hq
  rw [State.frames_setTop' _ hAt.top, X₁.tail] at hend
  obtain ⟨T', X', hW', hB, ht⟩ := X₁.outOfThrown (g := F0 m pc ls rest) rfl hend hW₂ hsame
  -- the handler
  have hheap : T'.heap = s₂.heap := by rw [ht]; exact (Stand.throwing_heap T' (F0 m pc ls rest) x).symm
  obtain ⟨cT, hcT, hcl⟩ := Cond.classLink_spec hown (hts _ hlk) e.platform hpl
  obtain ⟨dk, _, _, kt, hdk, _, _, _, _, hkt, _, hopen⟩ := hcl.here
  have hcl₀ := X'.warmed.classLinks hcl
  have hWn : s.WarmedH (T'.vm.noted m.cls ct (.cls cT)) := X'.warmed.noted hdk hopen (State.rightAt_cls hcl)
  have hcls2 : s.vm.findClass iaeN = some ce.cls := by
    have h1 : (T.setVm vm₁).vm.findClass iaeN = some ce.cls := hcls
    rwa [show (T.setVm vm₁).vm.findClass iaeN = s.vm.findClass iaeN from X₁.warmed.alike.findClass ..] at h1
  have hsame2 : ce.cls = cT := Option.some.inj (hcls2.symm.trans hcT)
  obtain ⟨kt', hkt', -⟩ := hWn.alike.2.2 _ _ hkt
  obtain ⟨ent, hent⟩ : ∃ ent : ExceptionTableEntry, c.exceptionTable.toList = [ent] := by
    cases h9 : c.exceptionTable.toList with
    | nil => rw [h9] at htab; cases htab
    | cons u v =>
      rw [h9] at htab
      cases v with
      | nil => exact ⟨u, rfl⟩
      | cons _ _ => simp at htab
  rw [hent] at htab
  simp only [List.map_cons, List.map_nil, List.cons.injEq, Prod.mk.injEq, and_true] at htab
  obtain ⟨t1, t2, t3, t4⟩ := htab
  have hfind := find_one (e := e) (s := (T'.setTop (F0 m pc ls rest)).pushFrame (.throwing x)) (f := F0 m pc ls rest) (a := x) (meth := meth) (code := c) (x := ent) (cT := cT) (vm' := T'.vm.noted m.cls ct (.cls cT)) (cell := ce)
    (by rw [Stand.throwing_vm]; exact X'.method') X.code hent (by simp only [covers, t1, t2]; simp [hcov.1, hcov.2]) (by rw [t4]; exact hct)
    (by rw [Stand.throwing_vm, t4]; exact resolveClass_links e.toSetting hcl₀) (by rw [Stand.throwing_vm, Vm.size_noted]; exact Nat.le_refl _) (by rw [Stand.throwing_heap, hheap]; exact hce) (fun k => by rw [hcvm]; intro h; cases h)
    ⟨kt', by rw [hsame2]; exact hkt'⟩ ⟨kt', hkt'⟩ (by
      obtain ⟨c3, c4, w1, w2, w3⟩ := Cond.castable_spec ((hTA T hT X.warmed) (.castable iaeN iaeN) (by simp [thrA]))
      rw [X.warmed.alike.findClass] at w1 w2
      cases hcT.symm.trans w1
      cases hcT.symm.trans w2
      rw [hsame2, hWn.alike.assignable, ← X.warmed.alike.assignable]
      exact w3)
  have Xn := X'.noted hWn
  rw [List.append_nil] at Xn
  have hold : ∀ (q : Nat) (cell : Cell), H[q]? = some cell → T'.heap[q]? = some cell := by
    intro q cell hq
    rw [hheap]
    have h1 : (T.setVm vm₁).heap[q]? = some cell := by rw [← hT] at hq; exact hq
    exact State.sameButNew.old_cell hsame (a := q) (c := cell) h1
  obtain ⟨t, a1, b1⟩ := kk x T'.heap (by have h9 := hsame.2.1; rw [hheap]; rw [← hT]; exact h9) hold (T'.setVm (T'.vm.noted m.cls ct (.cls cT))) rfl Xn
  refine ⟨t, ?_, b1⟩
  refine hstep₁ _ fun acts => ?_
  rw [doInvoke_state]
  refine hsteps.trans ?_
  rw [ht]
  rw [t3] at hfind
  exact caught_one X'.here hfind a1
end ZC
end
section
/-! ===== the constructors (walks printed by gen/init.py) ===== -/
section ZN
variable {p : Program} {l : Launch} {e : Env} {R : Room} {s : State} {m : MethodId} {args : Array Value} {below : List Frame} {meth : Method} {c : Code} {H : Heap} {locs : List Loc} {cells slots : Nat} {Q : State → Prop}
variable {cc : ByteArray} {pc nL : Nat} {rt : Option FieldType} {ls : Array Slot} {rest : List Value} {D : va_G} {A : Nat → Prop} {tys : List (ClassId × FieldType)} {W0 : va_W} {own : String}
theorem ac_int : Cond.arrayClass .int ∈ tb := by decide +kernel
theorem zr_newI (C : Cx p m meth c cc nL rt s args own) (hA : ∀ q : Nat, s.heap.size ≤ q → A q) (hw : Wd D tys A s H locs W0) (t0 : Nat) {cA : ClassId} (ht : tys[t0]? = some (cA, .int)) {n : Nat} (hn : n ≤ 100000) (hcells : cells + 1 ≤ R.cells) (hslots : slots + n ≤ R.slots) (hdg : decode cc pc = .ok (.newarray .int, 2))
    (kk : ∀ (q : Nat) (H : Heap), Wd D tys A s H locs (W0 ++ [(q, .inl (cA, n, .inl (fun _ => 0)))]) → W p l e R s m args below meth c H locs (cells + 1) (slots + n) Q (F0 m (pc + 2) ls (.ref q :: rest))) : W p l e R s m args below meth c H locs cells slots Q (F0 m pc ls (.int (nI n) :: rest)) := by
  have hac : (Cond.arrayClass (newarray.typeOf .int)).before args s = true := C.1.2.2.2.2 _ ac_int
  refine va_newa (atype := .int) C.1.1 C.1.2.1 hac (ty := .int) rfl hw.1 hw.2.1 hw.2.2.1 hw.2.2.2 hA (a0 := (n, .inl (fun _ => 0))) (fun cA => rfl) (nI_pos (by omega)) (nI_clamp (by omega)) (by show n * 4 ≤ _; omega) hcells hslots hdg (fun q cA' H1 hK hP hD hS => ?_)
  have h1 := (hK.2 tys.length (cA', .int) (by simp)).2
  have h2 := (hw.1.2 t0 (cA, .int) ht).2
  have e1 : cA' = cA := Option.some.inj (h1.symm.trans h2)
  subst e1
  exact kk q H1 ⟨hw.1, hP, hD, hS⟩
theorem ac_boolean : Cond.arrayClass .boolean ∈ tb := by decide +kernel
theorem zr_newZ (C : Cx p m meth c cc nL rt s args own) (hA : ∀ q : Nat, s.heap.size ≤ q → A q) (hw : Wd D tys A s H locs W0) (t0 : Nat) {cA : ClassId} (ht : tys[t0]? = some (cA, .boolean)) {n : Nat} (hn : n ≤ 100000) (hcells : cells + 1 ≤ R.cells) (hslots : slots + n ≤ R.slots) (hdg : decode cc pc = .ok (.newarray .boolean, 2))
    (kk : ∀ (q : Nat) (H : Heap), Wd D tys A s H locs (W0 ++ [(q, .inl (cA, n, .inl (fun _ => 0)))]) → W p l e R s m args below meth c H locs (cells + 1) (slots + n) Q (F0 m (pc + 2) ls (.ref q :: rest))) : W p l e R s m args below meth c H locs cells slots Q (F0 m pc ls (.int (nI n) :: rest)) := by
  have hac : (Cond.arrayClass (newarray.typeOf .boolean)).before args s = true := C.1.2.2.2.2 _ ac_boolean
  refine va_newa (atype := .boolean) C.1.1 C.1.2.1 hac (ty := .boolean) rfl hw.1 hw.2.1 hw.2.2.1 hw.2.2.2 hA (a0 := (n, .inl (fun _ => 0))) (fun cA => rfl) (nI_pos (by omega)) (nI_clamp (by omega)) (by show n * 1 ≤ _; omega) hcells hslots hdg (fun q cA' H1 hK hP hD hS => ?_)
  have h1 := (hK.2 tys.length (cA', .boolean) (by simp)).2
  have h2 := (hw.1.2 t0 (cA, .boolean) ht).2
  have e1 : cA' = cA := Option.some.inj (h1.symm.trans h2)
  subst e1
  exact kk q H1 ⟨hw.1, hP, hD, hS⟩
theorem ac_long : Cond.arrayClass .long ∈ tb := by decide +kernel
theorem zr_newJ (C : Cx p m meth c cc nL rt s args own) (hA : ∀ q : Nat, s.heap.size ≤ q → A q) (hw : Wd D tys A s H locs W0) (t0 : Nat) {cA : ClassId} (ht : tys[t0]? = some (cA, .long)) {n : Nat} (hn : n ≤ 100000) (hcells : cells + 1 ≤ R.cells) (hslots : slots + n ≤ R.slots) (hdg : decode cc pc = .ok (.newarray .long, 2))
    (kk : ∀ (q : Nat) (H : Heap), Wd D tys A s H locs (W0 ++ [(q, .inl (cA, n, .inr (.inl (fun _ => 0))))]) → W p l e R s m args below meth c H locs (cells + 1) (slots + n) Q (F0 m (pc + 2) ls (.ref q :: rest))) : W p l e R s m args below meth c H locs cells slots Q (F0 m pc ls (.int (nI n) :: rest)) := by
  have hac : (Cond.arrayClass (newarray.typeOf .long)).before args s = true := C.1.2.2.2.2 _ ac_long
  refine va_newa (atype := .long) C.1.1 C.1.2.1 hac (ty := .long) rfl hw.1 hw.2.1 hw.2.2.1 hw.2.2.2 hA (a0 := (n, .inr (.inl (fun _ => 0)))) (fun cA => rfl) (nI_pos (by omega)) (nI_clamp (by omega)) (by show n * 8 ≤ _; omega) hcells hslots hdg (fun q cA' H1 hK hP hD hS => ?_)
  have h1 := (hK.2 tys.length (cA', .long) (by simp)).2
  have h2 := (hw.1.2 t0 (cA, .long) ht).2
  have e1 : cA' = cA := Option.some.inj (h1.symm.trans h2)
  subst e1
  exact kk q H1 ⟨hw.1, hP, hD, hS⟩
end ZN
/-- a number held to 1 .. M -/
def clN (v : Int32) (M : Nat) : Nat := if v < 1 then 1 else if nI M < v then M else v.toNatClampNeg
theorem clN_mid {v : Int32} {M : Nat} (hM : M < 2 ^ 31) (h1 : ¬ v < 1) (h2 : ¬ nI M < v) : ∃ j, j ≤ M ∧ 1 ≤ j ∧ v = nI j ∧ clN v M = j := by
  have h0 : ¬ v < 0 := fun z => h1 (by rw [Int32.lt_iff_toInt_lt] at z ⊢; have e1 : (1 : Int32).toInt = 1 := by decide
                                       have e0 : (0 : Int32).toInt = 0 := by decide
                                       omega)
  obtain ⟨j, hj, e⟩ := nI_of2 (nI_toInt hM) h0 (Int32.not_lt.mp h2)
  subst e
  refine ⟨j, hj, ?_, rfl, ?_⟩
  · rcases Nat.eq_zero_or_pos j with q | q
    · subst q; exact absurd (by decide) h1
    · exact q
  · unfold clN; rw [if_neg h1, if_neg h2, nI_clamp (by omega)]
theorem clN_in (v : Int32) {M : Nat} (hM1 : 1 ≤ M) (hM : M < 2 ^ 31) : 1 ≤ clN v M ∧ clN v M ≤ M := by
  by_cases h1 : v < 1
  · unfold clN; rw [if_pos h1]; omega
  · by_cases h2 : nI M < v
    · unfold clN; rw [if_neg h1, if_pos h2]; omega
    · obtain ⟨j, a1, a2, -, a4⟩ := clN_mid hM h1 h2
      rw [a4]; exact ⟨a2, a1⟩
theorem em_cl1 {v : Int32} {M : Nat} (h : ¬ nI 1 ≤ v) : nI 1 = nI (clN v M) := by
  have h1 : v < 1 := Int32.not_le.mp h
  unfold clN; rw [if_pos h1]
theorem em_cl2 {v : Int32} {M : Nat} (hM : M < 2 ^ 31) (h : nI 1 ≤ v) (h2 : v ≤ nI M) : v = nI (clN v M) := by
  obtain ⟨j, a1, a2, a3, a4⟩ := clN_mid hM (Int32.not_lt.mpr h) (Int32.not_lt.mpr h2)
  rw [a4]; exact a3
theorem em_cl3 {v : Int32} {M : Nat} (h : nI 1 ≤ v) (h2 : ¬ v ≤ nI M) : nI M = nI (clN v M) := by
  have h1 : ¬ v < 1 := Int32.not_lt.mpr h
  unfold clN; rw [if_neg h1, if_pos (Int32.not_le.mp h2)]
theorem es_cl {v : Int32} {M : Nat} (hM1 : 1 ≤ M) (hM : M < 2 ^ 31) : (if nI 1 < (if v < nI M then v else nI M) then (if v < nI M then v else nI M) else nI 1) = nI (clN v M) := by
  by_cases h1 : v < 1
  · have e1 : clN v M = 1 := by unfold clN; rw [if_pos h1]
    have hv : v < nI M := by
      rw [Int32.lt_iff_toInt_lt] at h1 ⊢
      have e2 : (1 : Int32).toInt = 1 := by decide
      rw [nI_toInt hM]; omega
    rw [if_pos hv, e1, if_neg (fun z => by
      have z2 : (1 : Int32) < v := z
      rw [Int32.lt_iff_toInt_lt] at z2 h1
      omega)]
  · by_cases h2 : nI M < v
    · have e1 : clN v M = M := by unfold clN; rw [if_neg h1, if_pos h2]
      have e3 : (if v < nI M then v else nI M) = nI M := if_neg (fun z => by rw [Int32.lt_iff_toInt_lt] at z h2; omega)
      rw [e3, e1]
      split
      · rfl
      · rename_i z
        have : ¬ 1 < M := fun q => z (nI_lt q hM)
        rw [show M = 1 by omega]
    · obtain ⟨j, a1, a2, a3, a4⟩ := clN_mid hM h1 h2
      rw [a4]
      subst a3
      have e2 : (if nI j < nI M then nI j else nI M) = nI j := by
        by_cases q : j < M
        · rw [if_pos (nI_lt q hM)]
        · rw [show j = M by omega]; split <;> rfl
      rw [e2]
      split
      · rfl
      · rename_i z
        have : ¬ 1 < j := fun q => z (nI_lt q (by omega))
        rw [show j = 1 by omega]
/-- addresses by their number -/
def qL (ad : List Nat) : Nat → Nat := fun k => ad.getD k 0
abbrev esBl : List Value := [.int 0, .int 0, .null, .null, .null, .int 0, .null, .null, .int 0, .int 0, .int 0, .null, .null, .int 0, .null, .int 0, .int 0, .int 0, .int 0, .int 0, .int 0, .int 0, .int 0, .int 0]
abbrev emBl : List Value := [.int 0, .int 0, .int 0, .int 0, .int 0, .int 0, .int 0, .int 0, .int 0, .int 0, .int 0, .int 0, .int 0, .int 0, .int 0, .null, .null, .null, .null]
section INIT
variable {l : Launch} {D : va_G} {cI cZ cJ : ClassId} {sz : Nat} {w S : Nat}
set_option maxHeartbeats 4000000 in
set_option maxRecDepth 100000 in
theorem lp_ES_init {p : Program} {e : Env} {s : State} {m : MethodId} {args : Array Value} {below : List Frame} {meth : Method} {c : Code} {R : Room} {H : Heap} {locs : List Loc} {cells slots : Nat} {Q : State → Prop} (C : Cx p m meth c b_ES_init 6 none s args R_ES) {o : Nat} {wx sx : Int32} (hS : S ≤ 2000) (KK : ∀ (d : Nat) (ls : Array Slot), d ≤ 11 → S + 1 ≤ 2 ^ d → lv_has ls 6 [(5, .int (nI (2 ^ d))), (4, .int (nI (S + 1))), (3, .int (nI (S * w))), (0, .ref o), (1, .int wx), (2, .int sx)] → W p l e R s m args below meth c H locs cells slots Q (F0 m 139 ls [])) : ∀ (n d : Nat) (ls : Array Slot), d + n = 11 → lv_has ls 6 [(5, .int (nI (2 ^ d))), (4, .int (nI (S + 1))), (3, .int (nI (S * w))), (0, .ref o), (1, .int wx), (2, .int sx)] → W p l e R s m args below meth c H locs cells slots Q (F0 m 123 ls []) := by
  have hx := C.1.1
  have hb := C.1.2.1
  intro n
  induction n with
  | zero =>
    intro d ls hd hl
    have ed : d = 11 := hd
    subst ed
    refine lv_iload hx hb d_ES_init_123 (lv_at hl 0 rfl) ?_
    refine lv_iload hx hb d_ES_init_125 (lv_at hl 1 rfl) ?_
    refine zr_cge hx hb (by omega) (by omega) (tgt := 139) d_ES_init_127 (by decide) (fun h127 => ?_) (fun h127 => ?_)
    · exact KK 11 ls (Nat.le_refl _) h127 hl
    · exact absurd h127 (by omega)
  | succ n ih =>
    intro d ls hd hl
    have hpw : 2 ^ d ≤ 2 ^ 11 := Nat.pow_le_pow_right (by decide) (by omega)
    refine lv_iload hx hb d_ES_init_123 (lv_at hl 0 rfl) ?_
    refine lv_iload hx hb d_ES_init_125 (lv_at hl 1 rfl) ?_
    refine zr_cge hx hb (by omega) (by omega) (tgt := 139) d_ES_init_127 (by decide) (fun h127 => ?_) (fun h127 => ?_)
    · exact KK d ls (by omega) h127 hl
    · refine lv_iload hx hb d_ES_init_130 (lv_at hl 0 rfl) ?_
      refine lv_iconst (v := nI 2) hx hb d_ES_init_132 (by decide) ?_
      refine zr_mul hx hb d_ES_init_133 ?_
      refine zr_top (y := nI (2 ^ (d + 1))) (congrArg nI (Nat.pow_succ ..).symm) ?_
      refine lv_istore (lv' := [(5, .int (nI (2 ^ (d + 1)))), (4, .int (nI (S + 1))), (3, .int (nI (S * w))), (0, .ref o), (1, .int wx), (2, .int sx)]) hx hb d_ES_init_134 hl (by decide) rfl (fun ls hl => ?_)
      refine lv_goto (tgt := 123) hx hb d_ES_init_136 (by decide) ?_
      exact ih (d + 1) ls (by omega) hl
set_option maxHeartbeats 4000000 in
set_option maxRecDepth 100000 in
theorem c_ES_init {o : Nat} {wx sx : Int32} (hwe : w = clN wx 64) (hSe : S = clN sx 2000 / w) : MetV l y_ES_init b_ES_init 6 { frames := 1, cells := 8, slots := 12300, locals := 30 } D (tyL cI cZ cJ) [.ref o, .int wx, .int sx] [(o, .inr (0, esBl))] sz (fun (u : (Nat → Nat) × Nat) => u.1 0 = o ∧ Geo w S u.2) (fun u => esW cI u.1 w (S * w) (S + 1) u.2 (fun _ => 0) (fun _ => 0) (fun _ => 0) (fun _ => 0) (fun _ => 0) (fun _ => 0) (fun _ => 0) (fun _ => some 0) 0 0 0 false 0 0 0 0 0 0 0 0 0 0) := by
  refine MetV.of (by decide) (Nat.le_of_ble_eq_true rfl) ?_
  intro p e s m below meth c A ls C hnm hA hw hl
  have hx := C.1.1
  have hb := C.1.2.1
  have hl : lv_has ls 6 [(0, .ref o), (1, .int wx), (2, .int sx)] := hl
  obtain ⟨hw1, hw2⟩ := clN_in wx (M := 64) (by decide) (by decide)
  obtain ⟨hs1, hs2⟩ := clN_in sx (M := 2000) (by decide) (by decide)
  rw [← hwe] at hw1 hw2
  have hSw : S * w ≤ 2000 := by rw [hSe]; exact Nat.le_trans (Nat.div_mul_le_self _ _) hs2
  have hS2 : S ≤ 2000 := by rw [hSe]; exact Nat.le_trans (Nat.div_le_self _ _) hs2
  generalize hse : clN sx 2000 = s0 at hSe hs1 hs2
  have hw : Wd D (tyL cI cZ cJ) A s s.heap [] [(o, .inr (0, [.int 0, .int 0, .null, .null, .null, .int 0, .null, .null, .int 0, .int 0, .int 0, .null, .null, .int 0, .null, .int 0, .int 0, .int 0, .int 0, .int 0, .int 0, .int 0, .int 0, .int 0]))] := hw
  refine lv_aload_n hx hb d_ES_init_0 rfl (lv_at hl 0 rfl) ?_
  refine W.objInit hx hb C.1.2.2.2.1 (C.1.2.2.2.2 (.methodLink R_ES 1 objectInit) (by decide +kernel)) (C.1.2.2.2.2 (.instanceMethod objectInit) (by decide +kernel)) (C.1.2.2.2.2 (.code objectInit ⟨#[0xb1]⟩ 1 none) (by decide +kernel)) rfl (by rw [C.1.2.2.1]; exact hl.1) rfl d_ES_init_1 (Nat.le_of_ble_eq_true rfl) (Nat.le_of_ble_eq_true rfl) ?_
  refine W.eq (g2 := F0 m 4 ls []) rfl ?_
  refine lv_aload_n hx hb d_ES_init_4 rfl (lv_at hl 0 rfl) ?_
  refine lv_iconst (v := nI 1) hx hb d_ES_init_5 (by decide) ?_
  refine lv_bipush (v := nI 64) hx hb d_ES_init_6 (by decide) ?_
  refine lv_iload_n hx hb d_ES_init_8 rfl (lv_at hl 1 rfl) ?_
  refine zr_min C hl.1 (Nat.le_of_ble_eq_true rfl) (Nat.le_of_ble_eq_true rfl) (Nat.zero_le _) (Nat.zero_le _) d_ES_init_9 ?_
  refine zr_max C hl.1 (Nat.le_of_ble_eq_true rfl) (Nat.le_of_ble_eq_true rfl) (Nat.zero_le _) (Nat.zero_le _) d_ES_init_12 ?_
  refine zr_top (y := nI w) (by rw [hwe]; exact es_cl (M := 64) (by decide) (by decide)) ?_
  refine es_putF C hnm hw rfl lk_ES_0 rfl rfl rfl (Nat.le_of_ble_eq_true rfl) (W1 := [(o, .inr (0, [.int (nI w), .int 0, .null, .null, .null, .int 0, .null, .null, .int 0, .int 0, .int 0, .null, .null, .int 0, .null, .int 0, .int 0, .int 0, .int 0, .int 0, .int 0, .int 0, .int 0, .int 0]))]) rfl d_ES_init_15 (fun H locs hw => ?_)
  refine lv_iconst (v := nI 1) hx hb d_ES_init_18 (by decide) ?_
  refine lv_sipush (v := nI 2000) hx hb d_ES_init_19 (by decide) ?_
  refine lv_iload_n hx hb d_ES_init_22 rfl (lv_at hl 2 rfl) ?_
  refine zr_min C hl.1 (Nat.le_of_ble_eq_true rfl) (Nat.le_of_ble_eq_true rfl) (Nat.zero_le _) (Nat.zero_le _) d_ES_init_23 ?_
  refine zr_max C hl.1 (Nat.le_of_ble_eq_true rfl) (Nat.le_of_ble_eq_true rfl) (Nat.zero_le _) (Nat.zero_le _) d_ES_init_26 ?_
  refine zr_top (y := nI s0) (by rw [← hse]; exact es_cl (M := 2000) (by decide) (by decide)) ?_
  refine lv_aload_n hx hb d_ES_init_29 rfl (lv_at hl 0 rfl) ?_
  refine es_get C hw rfl lk_ES_0 rfl d_ES_init_30 ?_
  refine zr_div hx hb (by omega) (by omega) (by omega) d_ES_init_33 ?_
  refine zr_top (y := nI S) (congrArg nI hSe.symm) ?_
  refine lv_aload_n hx hb d_ES_init_34 rfl (lv_at hl 0 rfl) ?_
  refine es_get C hw rfl lk_ES_0 rfl d_ES_init_35 ?_
  refine zr_mul hx hb d_ES_init_38 ?_
  refine lv_istore_n (lv' := [(3, .int (nI (S * w))), (0, .ref o), (1, .int wx), (2, .int sx)]) hx hb d_ES_init_39 rfl hl (by decide) rfl (fun ls hl => ?_)
  refine lv_aload_n hx hb d_ES_init_40 rfl (lv_at hl 1 rfl) ?_
  refine lv_iload_n hx hb d_ES_init_41 rfl (lv_at hl 0 rfl) ?_
  refine lv_aload_n hx hb d_ES_init_42 rfl (lv_at hl 1 rfl) ?_
  refine es_get C hw rfl lk_ES_0 rfl d_ES_init_43 ?_
  refine zr_add hx hb d_ES_init_46 ?_
  refine es_putF C hnm hw rfl lk_ES_1 rfl rfl rfl (Nat.le_of_ble_eq_true rfl) (W1 := [(o, .inr (0, [.int (nI w), .int (nI ((S * w) + w)), .null, .null, .null, .int 0, .null, .null, .int 0, .int 0, .int 0, .null, .null, .int 0, .null, .int 0, .int 0, .int 0, .int 0, .int 0, .int 0, .int 0, .int 0, .int 0]))]) rfl d_ES_init_47 (fun H locs hw => ?_)
  refine lv_aload_n hx hb d_ES_init_50 rfl (lv_at hl 1 rfl) ?_
  refine lv_aload_n hx hb d_ES_init_51 rfl (lv_at hl 1 rfl) ?_
  refine es_get C hw rfl lk_ES_0 rfl d_ES_init_52 ?_
  refine zr_newI C hA hw 0 rfl (by omega) (show _ ≤ 8 by omega) (show _ ≤ 12300 by omega) d_ES_init_55 (fun a1 H hw => ?_)
  have hw : Wd D (tyL cI cZ cJ) A s H _ [(o, .inr (0, [.int (nI w), .int (nI ((S * w) + w)), .null, .null, .null, .int 0, .null, .null, .int 0, .int 0, .int 0, .null, .null, .int 0, .null, .int 0, .int 0, .int 0, .int 0, .int 0, .int 0, .int 0, .int 0, .int 0])), (a1, .inl (cI, w, .inl (fun _ => 0)))] := hw
  refine es_putF C hnm hw rfl lk_ES_2 rfl rfl rfl (Nat.le_of_ble_eq_true rfl) (W1 := [(o, .inr (0, [.int (nI w), .int (nI ((S * w) + w)), .ref a1, .null, .null, .int 0, .null, .null, .int 0, .int 0, .int 0, .null, .null, .int 0, .null, .int 0, .int 0, .int 0, .int 0, .int 0, .int 0, .int 0, .int 0, .int 0])), (a1, .inl (cI, w, .inl (fun _ => 0)))]) rfl d_ES_init_57 (fun H locs hw => ?_)
  refine lv_aload_n hx hb d_ES_init_60 rfl (lv_at hl 1 rfl) ?_
  refine lv_aload_n hx hb d_ES_init_61 rfl (lv_at hl 1 rfl) ?_
  refine es_get C hw rfl lk_ES_0 rfl d_ES_init_62 ?_
  refine zr_newI C hA hw 0 rfl (by omega) (show _ ≤ 8 by omega) (show _ ≤ 12300 by omega) d_ES_init_65 (fun a2 H hw => ?_)
  have hw : Wd D (tyL cI cZ cJ) A s H _ [(o, .inr (0, [.int (nI w), .int (nI ((S * w) + w)), .ref a1, .null, .null, .int 0, .null, .null, .int 0, .int 0, .int 0, .null, .null, .int 0, .null, .int 0, .int 0, .int 0, .int 0, .int 0, .int 0, .int 0, .int 0, .int 0])), (a1, .inl (cI, w, .inl (fun _ => 0))), (a2, .inl (cI, w, .inl (fun _ => 0)))] := hw
  refine es_putF C hnm hw rfl lk_ES_3 rfl rfl rfl (Nat.le_of_ble_eq_true rfl) (W1 := [(o, .inr (0, [.int (nI w), .int (nI ((S * w) + w)), .ref a1, .ref a2, .null, .int 0, .null, .null, .int 0, .int 0, .int 0, .null, .null, .int 0, .null, .int 0, .int 0, .int 0, .int 0, .int 0, .int 0, .int 0, .int 0, .int 0])), (a1, .inl (cI, w, .inl (fun _ => 0))), (a2, .inl (cI, w, .inl (fun _ => 0)))]) rfl d_ES_init_67 (fun H locs hw => ?_)
  refine lv_aload_n hx hb d_ES_init_70 rfl (lv_at hl 1 rfl) ?_
  refine lv_aload_n hx hb d_ES_init_71 rfl (lv_at hl 1 rfl) ?_
  refine es_get C hw rfl lk_ES_0 rfl d_ES_init_72 ?_
  refine zr_newI C hA hw 0 rfl (by omega) (show _ ≤ 8 by omega) (show _ ≤ 12300 by omega) d_ES_init_75 (fun a3 H hw => ?_)
  have hw : Wd D (tyL cI cZ cJ) A s H _ [(o, .inr (0, [.int (nI w), .int (nI ((S * w) + w)), .ref a1, .ref a2, .null, .int 0, .null, .null, .int 0, .int 0, .int 0, .null, .null, .int 0, .null, .int 0, .int 0, .int 0, .int 0, .int 0, .int 0, .int 0, .int 0, .int 0])), (a1, .inl (cI, w, .inl (fun _ => 0))), (a2, .inl (cI, w, .inl (fun _ => 0))), (a3, .inl (cI, w, .inl (fun _ => 0)))] := hw
  refine es_putF C hnm hw rfl lk_ES_4 rfl rfl rfl (Nat.le_of_ble_eq_true rfl) (W1 := [(o, .inr (0, [.int (nI w), .int (nI ((S * w) + w)), .ref a1, .ref a2, .ref a3, .int 0, .null, .null, .int 0, .int 0, .int 0, .null, .null, .int 0, .null, .int 0, .int 0, .int 0, .int 0, .int 0, .int 0, .int 0, .int 0, .int 0])), (a1, .inl (cI, w, .inl (fun _ => 0))), (a2, .inl (cI, w, .inl (fun _ => 0))), (a3, .inl (cI, w, .inl (fun _ => 0)))]) rfl d_ES_init_77 (fun H locs hw => ?_)
  refine lv_aload_n hx hb d_ES_init_80 rfl (lv_at hl 1 rfl) ?_
  refine lv_iload_n hx hb d_ES_init_81 rfl (lv_at hl 0 rfl) ?_
  refine zr_newI C hA hw 0 rfl (by omega) (show _ ≤ 8 by omega) (show _ ≤ 12300 by omega) d_ES_init_82 (fun a4 H hw => ?_)
  have hw : Wd D (tyL cI cZ cJ) A s H _ [(o, .inr (0, [.int (nI w), .int (nI ((S * w) + w)), .ref a1, .ref a2, .ref a3, .int 0, .null, .null, .int 0, .int 0, .int 0, .null, .null, .int 0, .null, .int 0, .int 0, .int 0, .int 0, .int 0, .int 0, .int 0, .int 0, .int 0])), (a1, .inl (cI, w, .inl (fun _ => 0))), (a2, .inl (cI, w, .inl (fun _ => 0))), (a3, .inl (cI, w, .inl (fun _ => 0))), (a4, .inl (cI, S * w, .inl (fun _ => 0)))] := hw
  refine es_putF C hnm hw rfl lk_ES_6 rfl rfl rfl (Nat.le_of_ble_eq_true rfl) (W1 := [(o, .inr (0, [.int (nI w), .int (nI ((S * w) + w)), .ref a1, .ref a2, .ref a3, .int 0, .ref a4, .null, .int 0, .int 0, .int 0, .null, .null, .int 0, .null, .int 0, .int 0, .int 0, .int 0, .int 0, .int 0, .int 0, .int 0, .int 0])), (a1, .inl (cI, w, .inl (fun _ => 0))), (a2, .inl (cI, w, .inl (fun _ => 0))), (a3, .inl (cI, w, .inl (fun _ => 0))), (a4, .inl (cI, S * w, .inl (fun _ => 0)))]) rfl d_ES_init_84 (fun H locs hw => ?_)
  refine lv_aload_n hx hb d_ES_init_87 rfl (lv_at hl 1 rfl) ?_
  refine lv_iload_n hx hb d_ES_init_88 rfl (lv_at hl 0 rfl) ?_
  refine zr_newI C hA hw 0 rfl (by omega) (show _ ≤ 8 by omega) (show _ ≤ 12300 by omega) d_ES_init_89 (fun a5 H hw => ?_)
  have hw : Wd D (tyL cI cZ cJ) A s H _ [(o, .inr (0, [.int (nI w), .int (nI ((S * w) + w)), .ref a1, .ref a2, .ref a3, .int 0, .ref a4, .null, .int 0, .int 0, .int 0, .null, .null, .int 0, .null, .int 0, .int 0, .int 0, .int 0, .int 0, .int 0, .int 0, .int 0, .int 0])), (a1, .inl (cI, w, .inl (fun _ => 0))), (a2, .inl (cI, w, .inl (fun _ => 0))), (a3, .inl (cI, w, .inl (fun _ => 0))), (a4, .inl (cI, S * w, .inl (fun _ => 0))), (a5, .inl (cI, S * w, .inl (fun _ => 0)))] := hw
  refine es_putF C hnm hw rfl lk_ES_7 rfl rfl rfl (Nat.le_of_ble_eq_true rfl) (W1 := [(o, .inr (0, [.int (nI w), .int (nI ((S * w) + w)), .ref a1, .ref a2, .ref a3, .int 0, .ref a4, .ref a5, .int 0, .int 0, .int 0, .null, .null, .int 0, .null, .int 0, .int 0, .int 0, .int 0, .int 0, .int 0, .int 0, .int 0, .int 0])), (a1, .inl (cI, w, .inl (fun _ => 0))), (a2, .inl (cI, w, .inl (fun _ => 0))), (a3, .inl (cI, w, .inl (fun _ => 0))), (a4, .inl (cI, S * w, .inl (fun _ => 0))), (a5, .inl (cI, S * w, .inl (fun _ => 0)))]) rfl d_ES_init_91 (fun H locs hw => ?_)
  refine lv_iload_n hx hb d_ES_init_94 rfl (lv_at hl 0 rfl) ?_
  refine lv_aload_n hx hb d_ES_init_95 rfl (lv_at hl 1 rfl) ?_
  refine es_get C hw rfl lk_ES_0 rfl d_ES_init_96 ?_
  refine zr_div hx hb (by omega) (by omega) (by omega) d_ES_init_99 ?_
  refine zr_top (y := nI S) (congrArg nI (Nat.mul_div_cancel S (by omega))) ?_
  refine lv_iconst (v := nI 1) hx hb d_ES_init_100 (by decide) ?_
  refine zr_add hx hb d_ES_init_101 ?_
  refine lv_istore (lv' := [(4, .int (nI (S + 1))), (3, .int (nI (S * w))), (0, .ref o), (1, .int wx), (2, .int sx)]) hx hb d_ES_init_102 hl (by decide) rfl (fun ls hl => ?_)
  refine lv_aload_n hx hb d_ES_init_104 rfl (lv_at hl 2 rfl) ?_
  refine lv_iload hx hb d_ES_init_105 (lv_at hl 0 rfl) ?_
  refine zr_newI C hA hw 0 rfl (by omega) (show _ ≤ 8 by omega) (show _ ≤ 12300 by omega) d_ES_init_107 (fun a6 H hw => ?_)
  have hw : Wd D (tyL cI cZ cJ) A s H _ [(o, .inr (0, [.int (nI w), .int (nI ((S * w) + w)), .ref a1, .ref a2, .ref a3, .int 0, .ref a4, .ref a5, .int 0, .int 0, .int 0, .null, .null, .int 0, .null, .int 0, .int 0, .int 0, .int 0, .int 0, .int 0, .int 0, .int 0, .int 0])), (a1, .inl (cI, w, .inl (fun _ => 0))), (a2, .inl (cI, w, .inl (fun _ => 0))), (a3, .inl (cI, w, .inl (fun _ => 0))), (a4, .inl (cI, S * w, .inl (fun _ => 0))), (a5, .inl (cI, S * w, .inl (fun _ => 0))), (a6, .inl (cI, S + 1, .inl (fun _ => 0)))] := hw
  refine es_putF C hnm hw rfl lk_ES_11 rfl rfl rfl (Nat.le_of_ble_eq_true rfl) (W1 := [(o, .inr (0, [.int (nI w), .int (nI ((S * w) + w)), .ref a1, .ref a2, .ref a3, .int 0, .ref a4, .ref a5, .int 0, .int 0, .int 0, .ref a6, .null, .int 0, .null, .int 0, .int 0, .int 0, .int 0, .int 0, .int 0, .int 0, .int 0, .int 0])), (a1, .inl (cI, w, .inl (fun _ => 0))), (a2, .inl (cI, w, .inl (fun _ => 0))), (a3, .inl (cI, w, .inl (fun _ => 0))), (a4, .inl (cI, S * w, .inl (fun _ => 0))), (a5, .inl (cI, S * w, .inl (fun _ => 0))), (a6, .inl (cI, S + 1, .inl (fun _ => 0)))]) rfl d_ES_init_109 (fun H locs hw => ?_)
  refine lv_aload_n hx hb d_ES_init_112 rfl (lv_at hl 2 rfl) ?_
  refine lv_iload hx hb d_ES_init_113 (lv_at hl 0 rfl) ?_
  refine zr_newI C hA hw 0 rfl (by omega) (show _ ≤ 8 by omega) (show _ ≤ 12300 by omega) d_ES_init_115 (fun a7 H hw => ?_)
  have hw : Wd D (tyL cI cZ cJ) A s H _ [(o, .inr (0, [.int (nI w), .int (nI ((S * w) + w)), .ref a1, .ref a2, .ref a3, .int 0, .ref a4, .ref a5, .int 0, .int 0, .int 0, .ref a6, .null, .int 0, .null, .int 0, .int 0, .int 0, .int 0, .int 0, .int 0, .int 0, .int 0, .int 0])), (a1, .inl (cI, w, .inl (fun _ => 0))), (a2, .inl (cI, w, .inl (fun _ => 0))), (a3, .inl (cI, w, .inl (fun _ => 0))), (a4, .inl (cI, S * w, .inl (fun _ => 0))), (a5, .inl (cI, S * w, .inl (fun _ => 0))), (a6, .inl (cI, S + 1, .inl (fun _ => 0))), (a7, .inl (cI, S + 1, .inl (fun _ => 0)))] := hw
  refine es_putF C hnm hw rfl lk_ES_12 rfl rfl rfl (Nat.le_of_ble_eq_true rfl) (W1 := [(o, .inr (0, [.int (nI w), .int (nI ((S * w) + w)), .ref a1, .ref a2, .ref a3, .int 0, .ref a4, .ref a5, .int 0, .int 0, .int 0, .ref a6, .ref a7, .int 0, .null, .int 0, .int 0, .int 0, .int 0, .int 0, .int 0, .int 0, .int 0, .int 0])), (a1, .inl (cI, w, .inl (fun _ => 0))), (a2, .inl (cI, w, .inl (fun _ => 0))), (a3, .inl (cI, w, .inl (fun _ => 0))), (a4, .inl (cI, S * w, .inl (fun _ => 0))), (a5, .inl (cI, S * w, .inl (fun _ => 0))), (a6, .inl (cI, S + 1, .inl (fun _ => 0))), (a7, .inl (cI, S + 1, .inl (fun _ => 0)))]) rfl d_ES_init_117 (fun H locs hw => ?_)
  refine lv_iconst (v := nI 1) hx hb d_ES_init_120 (by decide) ?_
  refine lv_istore (lv' := [(5, .int (nI 1)), (4, .int (nI (S + 1))), (3, .int (nI (S * w))), (0, .ref o), (1, .int wx), (2, .int sx)]) hx hb d_ES_init_121 hl (by decide) rfl (fun ls hl => ?_)
  refine lp_ES_init C hS2 (fun d ls hd hSd hl => ?_) 11 0 ls (by omega) (lv_sub hl [0, 1, 2, 3, 4, 5] rfl)
  have hpw : 2 ^ d ≤ 2 ^ 11 := Nat.pow_le_pow_right (by decide) hd
  refine lv_aload_n hx hb d_ES_init_139 rfl (lv_at hl 3 rfl) ?_
  refine lv_iconst (v := nI 2) hx hb d_ES_init_140 (by decide) ?_
  refine lv_iload hx hb d_ES_init_141 (lv_at hl 0 rfl) ?_
  refine zr_mul hx hb d_ES_init_143 ?_
  refine zr_newI C hA hw 0 rfl (by omega) (show _ ≤ 8 by omega) (show _ ≤ 12300 by omega) d_ES_init_144 (fun a8 H hw => ?_)
  have hw : Wd D (tyL cI cZ cJ) A s H _ [(o, .inr (0, [.int (nI w), .int (nI ((S * w) + w)), .ref a1, .ref a2, .ref a3, .int 0, .ref a4, .ref a5, .int 0, .int 0, .int 0, .ref a6, .ref a7, .int 0, .null, .int 0, .int 0, .int 0, .int 0, .int 0, .int 0, .int 0, .int 0, .int 0])), (a1, .inl (cI, w, .inl (fun _ => 0))), (a2, .inl (cI, w, .inl (fun _ => 0))), (a3, .inl (cI, w, .inl (fun _ => 0))), (a4, .inl (cI, S * w, .inl (fun _ => 0))), (a5, .inl (cI, S * w, .inl (fun _ => 0))), (a6, .inl (cI, S + 1, .inl (fun _ => 0))), (a7, .inl (cI, S + 1, .inl (fun _ => 0))), (a8, .inl (cI, 2 * (2 ^ d), .inl (fun _ => 0)))] := hw
  refine es_putF C hnm hw rfl lk_ES_14 rfl rfl rfl (Nat.le_of_ble_eq_true rfl) (W1 := [(o, .inr (0, [.int (nI w), .int (nI ((S * w) + w)), .ref a1, .ref a2, .ref a3, .int 0, .ref a4, .ref a5, .int 0, .int 0, .int 0, .ref a6, .ref a7, .int 0, .ref a8, .int 0, .int 0, .int 0, .int 0, .int 0, .int 0, .int 0, .int 0, .int 0])), (a1, .inl (cI, w, .inl (fun _ => 0))), (a2, .inl (cI, w, .inl (fun _ => 0))), (a3, .inl (cI, w, .inl (fun _ => 0))), (a4, .inl (cI, S * w, .inl (fun _ => 0))), (a5, .inl (cI, S * w, .inl (fun _ => 0))), (a6, .inl (cI, S + 1, .inl (fun _ => 0))), (a7, .inl (cI, S + 1, .inl (fun _ => 0))), (a8, .inl (cI, 2 * (2 ^ d), .inl (fun _ => 0)))]) rfl d_ES_init_146 (fun H locs hw => ?_)
  refine W.widen (k := 8) (n := 12300) (by omega) (by omega) ?_
  exact zr_vret C (qL [o, a1, a2, a3, a4, a5, a6, a7, a8], 2 * 2 ^ d) ⟨rfl, by omega, hw2, hSw, hS2, by show 2 * 2 ^ d ≤ 4096; omega, d, rfl, hSd⟩ hw d_ES_init_149
set_option maxHeartbeats 4000000 in
set_option maxRecDepth 100000 in
theorem c_EM_init {o : Nat} {wx sx : Int32} (hwe : w = clN wx 64) (hSe : S = clN sx 2000 / w) : MetV l y_EM_init b_EM_init 5 { frames := 1, cells := 4, slots := 8256, locals := 30 } D (tyL cI cZ cJ) [.ref o, .int wx, .int sx] [(o, .inr (1, emBl))] sz (fun (u : Nat → Nat) => u 0 = o) (fun u => emW cI cZ u (fun _ => 0) (fun _ => 0) (fun _ => 0) (fun _ => false) 0 w (S * w + w) 0 0 0 false 0 0 0 0 0 0 0 0) := by
  refine MetV.of (by decide) (Nat.le_of_ble_eq_true rfl) ?_
  intro p e s m below meth c A ls C hnm hA hw hl
  have hx := C.1.1
  have hb := C.1.2.1
  have hl : lv_has ls 5 [(0, .ref o), (1, .int wx), (2, .int sx)] := hl
  obtain ⟨hw1, hw2⟩ := clN_in wx (M := 64) (by decide) (by decide)
  obtain ⟨hs1, hs2⟩ := clN_in sx (M := 2000) (by decide) (by decide)
  rw [← hwe] at hw1 hw2
  generalize hse : clN sx 2000 = s0 at hSe hs1 hs2
  have hw : Wd D (tyL cI cZ cJ) A s s.heap [] [(o, .inr (1, [.int 0, .int 0, .int 0, .int 0, .int 0, .int 0, .int 0, .int 0, .int 0, .int 0, .int 0, .int 0, .int 0, .int 0, .int 0, .null, .null, .null, .null]))] := hw
  refine lv_aload_n hx hb d_EM_init_0 rfl (lv_at hl 0 rfl) ?_
  refine W.objInit hx hb C.1.2.2.2.1 (C.1.2.2.2.2 (.methodLink R_EM 1 objectInit) (by decide +kernel)) (C.1.2.2.2.2 (.instanceMethod objectInit) (by decide +kernel)) (C.1.2.2.2.2 (.code objectInit ⟨#[0xb1]⟩ 1 none) (by decide +kernel)) rfl (by rw [C.1.2.2.1]; exact hl.1) rfl d_EM_init_1 (Nat.le_of_ble_eq_true rfl) (Nat.le_of_ble_eq_true rfl) ?_
  refine W.eq (g2 := F0 m 4 ls []) rfl ?_
  refine lv_aload_n hx hb d_EM_init_4 rfl (lv_at hl 0 rfl) ?_
  refine lv_sipush (v := nI 2064) hx hb d_EM_init_5 (by decide) ?_
  refine zr_newI C hA hw 0 rfl (by omega) (show _ ≤ 4 by omega) (show _ ≤ 8256 by omega) d_EM_init_8 (fun a1 H hw => ?_)
  have hw : Wd D (tyL cI cZ cJ) A s H _ [(o, .inr (1, [.int 0, .int 0, .int 0, .int 0, .int 0, .int 0, .int 0, .int 0, .int 0, .int 0, .int 0, .int 0, .int 0, .int 0, .int 0, .null, .null, .null, .null])), (a1, .inl (cI, 2064, .inl (fun _ => 0)))] := hw
  refine em_putF C hnm hw rfl lk_EM_15 rfl rfl rfl (Nat.le_of_ble_eq_true rfl) (W1 := [(o, .inr (1, [.int 0, .int 0, .int 0, .int 0, .int 0, .int 0, .int 0, .int 0, .int 0, .int 0, .int 0, .int 0, .int 0, .int 0, .int 0, .ref a1, .null, .null, .null])), (a1, .inl (cI, 2064, .inl (fun _ => 0)))]) rfl d_EM_init_10 (fun H locs hw => ?_)
  refine lv_aload_n hx hb d_EM_init_13 rfl (lv_at hl 0 rfl) ?_
  refine lv_sipush (v := nI 2064) hx hb d_EM_init_14 (by decide) ?_
  refine zr_newI C hA hw 0 rfl (by omega) (show _ ≤ 4 by omega) (show _ ≤ 8256 by omega) d_EM_init_17 (fun a2 H hw => ?_)
  have hw : Wd D (tyL cI cZ cJ) A s H _ [(o, .inr (1, [.int 0, .int 0, .int 0, .int 0, .int 0, .int 0, .int 0, .int 0, .int 0, .int 0, .int 0, .int 0, .int 0, .int 0, .int 0, .ref a1, .null, .null, .null])), (a1, .inl (cI, 2064, .inl (fun _ => 0))), (a2, .inl (cI, 2064, .inl (fun _ => 0)))] := hw
  refine em_putF C hnm hw rfl lk_EM_16 rfl rfl rfl (Nat.le_of_ble_eq_true rfl) (W1 := [(o, .inr (1, [.int 0, .int 0, .int 0, .int 0, .int 0, .int 0, .int 0, .int 0, .int 0, .int 0, .int 0, .int 0, .int 0, .int 0, .int 0, .ref a1, .ref a2, .null, .null])), (a1, .inl (cI, 2064, .inl (fun _ => 0))), (a2, .inl (cI, 2064, .inl (fun _ => 0)))]) rfl d_EM_init_19 (fun H locs hw => ?_)
  refine lv_aload_n hx hb d_EM_init_22 rfl (lv_at hl 0 rfl) ?_
  refine lv_sipush (v := nI 2064) hx hb d_EM_init_23 (by decide) ?_
  refine zr_newI C hA hw 0 rfl (by omega) (show _ ≤ 4 by omega) (show _ ≤ 8256 by omega) d_EM_init_26 (fun a3 H hw => ?_)
  have hw : Wd D (tyL cI cZ cJ) A s H _ [(o, .inr (1, [.int 0, .int 0, .int 0, .int 0, .int 0, .int 0, .int 0, .int 0, .int 0, .int 0, .int 0, .int 0, .int 0, .int 0, .int 0, .ref a1, .ref a2, .null, .null])), (a1, .inl (cI, 2064, .inl (fun _ => 0))), (a2, .inl (cI, 2064, .inl (fun _ => 0))), (a3, .inl (cI, 2064, .inl (fun _ => 0)))] := hw
  refine em_putF C hnm hw rfl lk_EM_17 rfl rfl rfl (Nat.le_of_ble_eq_true rfl) (W1 := [(o, .inr (1, [.int 0, .int 0, .int 0, .int 0, .int 0, .int 0, .int 0, .int 0, .int 0, .int 0, .int 0, .int 0, .int 0, .int 0, .int 0, .ref a1, .ref a2, .ref a3, .null])), (a1, .inl (cI, 2064, .inl (fun _ => 0))), (a2, .inl (cI, 2064, .inl (fun _ => 0))), (a3, .inl (cI, 2064, .inl (fun _ => 0)))]) rfl d_EM_init_28 (fun H locs hw => ?_)
  refine lv_aload_n hx hb d_EM_init_31 rfl (lv_at hl 0 rfl) ?_
  refine lv_sipush (v := nI 2064) hx hb d_EM_init_32 (by decide) ?_
  refine zr_newZ C hA hw 1 rfl (by omega) (show _ ≤ 4 by omega) (show _ ≤ 8256 by omega) d_EM_init_35 (fun a4 H hw => ?_)
  have hw : Wd D (tyL cI cZ cJ) A s H _ [(o, .inr (1, [.int 0, .int 0, .int 0, .int 0, .int 0, .int 0, .int 0, .int 0, .int 0, .int 0, .int 0, .int 0, .int 0, .int 0, .int 0, .ref a1, .ref a2, .ref a3, .null])), (a1, .inl (cI, 2064, .inl (fun _ => 0))), (a2, .inl (cI, 2064, .inl (fun _ => 0))), (a3, .inl (cI, 2064, .inl (fun _ => 0))), (a4, .inl (cZ, 2064, .inl (fun _ => 0)))] := hw
  refine em_putF C hnm hw rfl lk_EM_18 rfl rfl rfl (Nat.le_of_ble_eq_true rfl) (W1 := [(o, .inr (1, [.int 0, .int 0, .int 0, .int 0, .int 0, .int 0, .int 0, .int 0, .int 0, .int 0, .int 0, .int 0, .int 0, .int 0, .int 0, .ref a1, .ref a2, .ref a3, .ref a4])), (a1, .inl (cI, 2064, .inl (fun _ => 0))), (a2, .inl (cI, 2064, .inl (fun _ => 0))), (a3, .inl (cI, 2064, .inl (fun _ => 0))), (a4, .inl (cZ, 2064, .inl (fun _ => 0)))]) rfl d_EM_init_37 (fun H locs hw => ?_)
  refine lv_iload_n hx hb d_EM_init_40 rfl (lv_at hl 1 rfl) ?_
  refine lv_iconst (v := nI 1) hx hb d_EM_init_41 (by decide) ?_
  refine lv_icmp_ge (tgt := 49) hx hb d_EM_init_42 (by decide) (fun h42 => ?_) (fun h42 => ?_)
  · refine lv_iload_n hx hb d_EM_init_49 rfl (lv_at hl 1 rfl) ?_
    refine lv_bipush (v := nI 64) hx hb d_EM_init_50 (by decide) ?_
    refine lv_icmp_le (tgt := 60) hx hb d_EM_init_52 (by decide) (fun h52 => ?_) (fun h52 => ?_)
    · refine lv_iload_n hx hb d_EM_init_60 rfl (lv_at hl 1 rfl) ?_
      refine zr_top (y := nI w) (by rw [hwe]; first | exact em_cl1 h42 | exact em_cl2 (M := 64) (by decide) h42 h52 | exact em_cl3 (M := 64) h42 h52) ?_
      refine lv_istore_n (lv' := [(3, .int (nI w)), (0, .ref o), (1, .int wx), (2, .int sx)]) hx hb d_EM_init_61 rfl hl (by decide) rfl (fun ls hl => ?_)
      refine lv_iload_n hx hb d_EM_init_62 rfl (lv_at hl 3 rfl) ?_
      refine lv_iconst (v := nI 1) hx hb d_EM_init_63 (by decide) ?_
      refine lv_icmp_ge (tgt := 71) hx hb d_EM_init_64 (by decide) (fun h64 => ?_) (fun h64 => ?_)
      · refine lv_iload_n hx hb d_EM_init_71 rfl (lv_at hl 3 rfl) ?_
        refine lv_sipush (v := nI 2000) hx hb d_EM_init_72 (by decide) ?_
        refine lv_icmp_le (tgt := 84) hx hb d_EM_init_75 (by decide) (fun h75 => ?_) (fun h75 => ?_)
        · refine lv_iload_n hx hb d_EM_init_84 rfl (lv_at hl 3 rfl) ?_
          refine zr_top (y := nI s0) (by rw [← hse]; first | exact em_cl1 h64 | exact em_cl2 (M := 2000) (by decide) h64 h75 | exact em_cl3 (M := 2000) h64 h75) ?_
          refine lv_istore (lv' := [(4, .int (nI s0)), (3, .int (nI w)), (0, .ref o), (1, .int wx), (2, .int sx)]) hx hb d_EM_init_85 hl (by decide) rfl (fun ls hl => ?_)
          refine lv_aload_n hx hb d_EM_init_87 rfl (lv_at hl 2 rfl) ?_
          refine lv_iload_n hx hb d_EM_init_88 rfl (lv_at hl 1 rfl) ?_
          refine em_putF C hnm hw rfl lk_EM_1 rfl rfl rfl (Nat.le_of_ble_eq_true rfl) (W1 := [(o, .inr (1, [.int 0, .int (nI w), .int 0, .int 0, .int 0, .int 0, .int 0, .int 0, .int 0, .int 0, .int 0, .int 0, .int 0, .int 0, .int 0, .ref a1, .ref a2, .ref a3, .ref a4])), (a1, .inl (cI, 2064, .inl (fun _ => 0))), (a2, .inl (cI, 2064, .inl (fun _ => 0))), (a3, .inl (cI, 2064, .inl (fun _ => 0))), (a4, .inl (cZ, 2064, .inl (fun _ => 0)))]) rfl d_EM_init_89 (fun H locs hw => ?_)
          refine lv_aload_n hx hb d_EM_init_92 rfl (lv_at hl 2 rfl) ?_
          refine lv_iload_n hx hb d_EM_init_93 rfl (lv_at hl 1 rfl) ?_
          refine lv_iload hx hb d_EM_init_94 (lv_at hl 0 rfl) ?_
          refine lv_iload_n hx hb d_EM_init_96 rfl (lv_at hl 1 rfl) ?_
          refine zr_div hx hb (by omega) (by omega) (by omega) d_EM_init_97 ?_
          refine zr_top (y := nI S) (congrArg nI hSe.symm) ?_
          refine lv_iconst (v := nI 1) hx hb d_EM_init_98 (by decide) ?_
          refine zr_add hx hb d_EM_init_99 ?_
          refine zr_mul hx hb d_EM_init_100 ?_
          refine zr_top (y := nI (S * w + w)) (congrArg nI (by rw [Nat.mul_comm, Nat.succ_mul])) ?_
          refine em_putF C hnm hw rfl lk_EM_2 rfl rfl rfl (Nat.le_of_ble_eq_true rfl) (W1 := [(o, .inr (1, [.int 0, .int (nI w), .int (nI (S * w + w)), .int 0, .int 0, .int 0, .int 0, .int 0, .int 0, .int 0, .int 0, .int 0, .int 0, .int 0, .int 0, .ref a1, .ref a2, .ref a3, .ref a4])), (a1, .inl (cI, 2064, .inl (fun _ => 0))), (a2, .inl (cI, 2064, .inl (fun _ => 0))), (a3, .inl (cI, 2064, .inl (fun _ => 0))), (a4, .inl (cZ, 2064, .inl (fun _ => 0)))]) rfl d_EM_init_101 (fun H locs hw => ?_)
          refine W.widen (k := 4) (n := 8256) (by omega) (by omega) ?_
          exact zr_vret C (qL [o, a1, a2, a3, a4]) rfl hw d_EM_init_104
        · refine lv_sipush (v := nI 2000) hx hb d_EM_init_78 (by decide) ?_
          refine lv_goto (tgt := 85) hx hb d_EM_init_81 (by decide) ?_
          refine zr_top (y := nI s0) (by rw [← hse]; first | exact em_cl1 h64 | exact em_cl2 (M := 2000) (by decide) h64 h75 | exact em_cl3 (M := 2000) h64 h75) ?_
          refine lv_istore (lv' := [(4, .int (nI s0)), (3, .int (nI w)), (0, .ref o), (1, .int wx), (2, .int sx)]) hx hb d_EM_init_85 hl (by decide) rfl (fun ls hl => ?_)
          refine lv_aload_n hx hb d_EM_init_87 rfl (lv_at hl 2 rfl) ?_
          refine lv_iload_n hx hb d_EM_init_88 rfl (lv_at hl 1 rfl) ?_
          refine em_putF C hnm hw rfl lk_EM_1 rfl rfl rfl (Nat.le_of_ble_eq_true rfl) (W1 := [(o, .inr (1, [.int 0, .int (nI w), .int 0, .int 0, .int 0, .int 0, .int 0, .int 0, .int 0, .int 0, .int 0, .int 0, .int 0, .int 0, .int 0, .ref a1, .ref a2, .ref a3, .ref a4])), (a1, .inl (cI, 2064, .inl (fun _ => 0))), (a2, .inl (cI, 2064, .inl (fun _ => 0))), (a3, .inl (cI, 2064, .inl (fun _ => 0))), (a4, .inl (cZ, 2064, .inl (fun _ => 0)))]) rfl d_EM_init_89 (fun H locs hw => ?_)
          refine lv_aload_n hx hb d_EM_init_92 rfl (lv_at hl 2 rfl) ?_
          refine lv_iload_n hx hb d_EM_init_93 rfl (lv_at hl 1 rfl) ?_
          refine lv_iload hx hb d_EM_init_94 (lv_at hl 0 rfl) ?_
          refine lv_iload_n hx hb d_EM_init_96 rfl (lv_at hl 1 rfl) ?_
          refine zr_div hx hb (by omega) (by omega) (by omega) d_EM_init_97 ?_
          refine zr_top (y := nI S) (congrArg nI hSe.symm) ?_
          refine lv_iconst (v := nI 1) hx hb d_EM_init_98 (by decide) ?_
          refine zr_add hx hb d_EM_init_99 ?_
          refine zr_mul hx hb d_EM_init_100 ?_
          refine zr_top (y := nI (S * w + w)) (congrArg nI (by rw [Nat.mul_comm, Nat.succ_mul])) ?_
          refine em_putF C hnm hw rfl lk_EM_2 rfl rfl rfl (Nat.le_of_ble_eq_true rfl) (W1 := [(o, .inr (1, [.int 0, .int (nI w), .int (nI (S * w + w)), .int 0, .int 0, .int 0, .int 0, .int 0, .int 0, .int 0, .int 0, .int 0, .int 0, .int 0, .int 0, .ref a1, .ref a2, .ref a3, .ref a4])), (a1, .inl (cI, 2064, .inl (fun _ => 0))), (a2, .inl (cI, 2064, .inl (fun _ => 0))), (a3, .inl (cI, 2064, .inl (fun _ => 0))), (a4, .inl (cZ, 2064, .inl (fun _ => 0)))]) rfl d_EM_init_101 (fun H locs hw => ?_)
          refine W.widen (k := 4) (n := 8256) (by omega) (by omega) ?_
          exact zr_vret C (qL [o, a1, a2, a3, a4]) rfl hw d_EM_init_104
      · refine lv_iconst (v := nI 1) hx hb d_EM_init_67 (by decide) ?_
        refine lv_goto (tgt := 85) hx hb d_EM_init_68 (by decide) ?_
        refine zr_top (y := nI s0) (by rw [← hse]; first | exact em_cl1 h64 | exact em_cl2 (M := 2000) (by decide) h64 h75 | exact em_cl3 (M := 2000) h64 h75) ?_
        refine lv_istore (lv' := [(4, .int (nI s0)), (3, .int (nI w)), (0, .ref o), (1, .int wx), (2, .int sx)]) hx hb d_EM_init_85 hl (by decide) rfl (fun ls hl => ?_)
        refine lv_aload_n hx hb d_EM_init_87 rfl (lv_at hl 2 rfl) ?_
        refine lv_iload_n hx hb d_EM_init_88 rfl (lv_at hl 1 rfl) ?_
        refine em_putF C hnm hw rfl lk_EM_1 rfl rfl rfl (Nat.le_of_ble_eq_true rfl) (W1 := [(o, .inr (1, [.int 0, .int (nI w), .int 0, .int 0, .int 0, .int 0, .int 0, .int 0, .int 0, .int 0, .int 0, .int 0, .int 0, .int 0, .int 0, .ref a1, .ref a2, .ref a3, .ref a4])), (a1, .inl (cI, 2064, .inl (fun _ => 0))), (a2, .inl (cI, 2064, .inl (fun _ => 0))), (a3, .inl (cI, 2064, .inl (fun _ => 0))), (a4, .inl (cZ, 2064, .inl (fun _ => 0)))]) rfl d_EM_init_89 (fun H locs hw => ?_)
        refine lv_aload_n hx hb d_EM_init_92 rfl (lv_at hl 2 rfl) ?_
        refine lv_iload_n hx hb d_EM_init_93 rfl (lv_at hl 1 rfl) ?_
        refine lv_iload hx hb d_EM_init_94 (lv_at hl 0 rfl) ?_
        refine lv_iload_n hx hb d_EM_init_96 rfl (lv_at hl 1 rfl) ?_
        refine zr_div hx hb (by omega) (by omega) (by omega) d_EM_init_97 ?_
        refine zr_top (y := nI S) (congrArg nI hSe.symm) ?_
        refine lv_iconst (v := nI 1) hx hb d_EM_init_98 (by decide) ?_
        refine zr_add hx hb d_EM_init_99 ?_
        refine zr_mul hx hb d_EM_init_100 ?_
        refine zr_top (y := nI (S * w + w)) (congrArg nI (by rw [Nat.mul_comm, Nat.succ_mul])) ?_
        refine em_putF C hnm hw rfl lk_EM_2 rfl rfl rfl (Nat.le_of_ble_eq_true rfl) (W1 := [(o, .inr (1, [.int 0, .int (nI w), .int (nI (S * w + w)), .int 0, .int 0, .int 0, .int 0, .int 0, .int 0, .int 0, .int 0, .int 0, .int 0, .int 0, .int 0, .ref a1, .ref a2, .ref a3, .ref a4])), (a1, .inl (cI, 2064, .inl (fun _ => 0))), (a2, .inl (cI, 2064, .inl (fun _ => 0))), (a3, .inl (cI, 2064, .inl (fun _ => 0))), (a4, .inl (cZ, 2064, .inl (fun _ => 0)))]) rfl d_EM_init_101 (fun H locs hw => ?_)
        refine W.widen (k := 4) (n := 8256) (by omega) (by omega) ?_
        exact zr_vret C (qL [o, a1, a2, a3, a4]) rfl hw d_EM_init_104
    · refine lv_bipush (v := nI 64) hx hb d_EM_init_55 (by decide) ?_
      refine lv_goto (tgt := 61) hx hb d_EM_init_57 (by decide) ?_
      refine zr_top (y := nI w) (by rw [hwe]; first | exact em_cl1 h42 | exact em_cl2 (M := 64) (by decide) h42 h52 | exact em_cl3 (M := 64) h42 h52) ?_
      refine lv_istore_n (lv' := [(3, .int (nI w)), (0, .ref o), (1, .int wx), (2, .int sx)]) hx hb d_EM_init_61 rfl hl (by decide) rfl (fun ls hl => ?_)
      refine lv_iload_n hx hb d_EM_init_62 rfl (lv_at hl 3 rfl) ?_
      refine lv_iconst (v := nI 1) hx hb d_EM_init_63 (by decide) ?_
      refine lv_icmp_ge (tgt := 71) hx hb d_EM_init_64 (by decide) (fun h64 => ?_) (fun h64 => ?_)
      · refine lv_iload_n hx hb d_EM_init_71 rfl (lv_at hl 3 rfl) ?_
        refine lv_sipush (v := nI 2000) hx hb d_EM_init_72 (by decide) ?_
        refine lv_icmp_le (tgt := 84) hx hb d_EM_init_75 (by decide) (fun h75 => ?_) (fun h75 => ?_)
        · refine lv_iload_n hx hb d_EM_init_84 rfl (lv_at hl 3 rfl) ?_
          refine zr_top (y := nI s0) (by rw [← hse]; first | exact em_cl1 h64 | exact em_cl2 (M := 2000) (by decide) h64 h75 | exact em_cl3 (M := 2000) h64 h75) ?_
          refine lv_istore (lv' := [(4, .int (nI s0)), (3, .int (nI w)), (0, .ref o), (1, .int wx), (2, .int sx)]) hx hb d_EM_init_85 hl (by decide) rfl (fun ls hl => ?_)
          refine lv_aload_n hx hb d_EM_init_87 rfl (lv_at hl 2 rfl) ?_
          refine lv_iload_n hx hb d_EM_init_88 rfl (lv_at hl 1 rfl) ?_
          refine em_putF C hnm hw rfl lk_EM_1 rfl rfl rfl (Nat.le_of_ble_eq_true rfl) (W1 := [(o, .inr (1, [.int 0, .int (nI w), .int 0, .int 0, .int 0, .int 0, .int 0, .int 0, .int 0, .int 0, .int 0, .int 0, .int 0, .int 0, .int 0, .ref a1, .ref a2, .ref a3, .ref a4])), (a1, .inl (cI, 2064, .inl (fun _ => 0))), (a2, .inl (cI, 2064, .inl (fun _ => 0))), (a3, .inl (cI, 2064, .inl (fun _ => 0))), (a4, .inl (cZ, 2064, .inl (fun _ => 0)))]) rfl d_EM_init_89 (fun H locs hw => ?_)
          refine lv_aload_n hx hb d_EM_init_92 rfl (lv_at hl 2 rfl) ?_
          refine lv_iload_n hx hb d_EM_init_93 rfl (lv_at hl 1 rfl) ?_
          refine lv_iload hx hb d_EM_init_94 (lv_at hl 0 rfl) ?_
          refine lv_iload_n hx hb d_EM_init_96 rfl (lv_at hl 1 rfl) ?_
          refine zr_div hx hb (by omega) (by omega) (by omega) d_EM_init_97 ?_
          refine zr_top (y := nI S) (congrArg nI hSe.symm) ?_
          refine lv_iconst (v := nI 1) hx hb d_EM_init_98 (by decide) ?_
          refine zr_add hx hb d_EM_init_99 ?_
          refine zr_mul hx hb d_EM_init_100 ?_
          refine zr_top (y := nI (S * w + w)) (congrArg nI (by rw [Nat.mul_comm, Nat.succ_mul])) ?_
          refine em_putF C hnm hw rfl lk_EM_2 rfl rfl rfl (Nat.le_of_ble_eq_true rfl) (W1 := [(o, .inr (1, [.int 0, .int (nI w), .int (nI (S * w + w)), .int 0, .int 0, .int 0, .int 0, .int 0, .int 0, .int 0, .int 0, .int 0, .int 0, .int 0, .int 0, .ref a1, .ref a2, .ref a3, .ref a4])), (a1, .inl (cI, 2064, .inl (fun _ => 0))), (a2, .inl (cI, 2064, .inl (fun _ => 0))), (a3, .inl (cI, 2064, .inl (fun _ => 0))), (a4, .inl (cZ, 2064, .inl (fun _ => 0)))]) rfl d_EM_init_101 (fun H locs hw => ?_)
          refine W.widen (k := 4) (n := 8256) (by omega) (by omega) ?_
          exact zr_vret C (qL [o, a1, a2, a3, a4]) rfl hw d_EM_init_104
        · refine lv_sipush (v := nI 2000) hx hb d_EM_init_78 (by decide) ?_
          refine lv_goto (tgt := 85) hx hb d_EM_init_81 (by decide) ?_
          refine zr_top (y := nI s0) (by rw [← hse]; first | exact em_cl1 h64 | exact em_cl2 (M := 2000) (by decide) h64 h75 | exact em_cl3 (M := 2000) h64 h75) ?_
          refine lv_istore (lv' := [(4, .int (nI s0)), (3, .int (nI w)), (0, .ref o), (1, .int wx), (2, .int sx)]) hx hb d_EM_init_85 hl (by decide) rfl (fun ls hl => ?_)
          refine lv_aload_n hx hb d_EM_init_87 rfl (lv_at hl 2 rfl) ?_
          refine lv_iload_n hx hb d_EM_init_88 rfl (lv_at hl 1 rfl) ?_
          refine em_putF C hnm hw rfl lk_EM_1 rfl rfl rfl (Nat.le_of_ble_eq_true rfl) (W1 := [(o, .inr (1, [.int 0, .int (nI w), .int 0, .int 0, .int 0, .int 0, .int 0, .int 0, .int 0, .int 0, .int 0, .int 0, .int 0, .int 0, .int 0, .ref a1, .ref a2, .ref a3, .ref a4])), (a1, .inl (cI, 2064, .inl (fun _ => 0))), (a2, .inl (cI, 2064, .inl (fun _ => 0))), (a3, .inl (cI, 2064, .inl (fun _ => 0))), (a4, .inl (cZ, 2064, .inl (fun _ => 0)))]) rfl d_EM_init_89 (fun H locs hw => ?_)
          refine lv_aload_n hx hb d_EM_init_92 rfl (lv_at hl 2 rfl) ?_
          refine lv_iload_n hx hb d_EM_init_93 rfl (lv_at hl 1 rfl) ?_
          refine lv_iload hx hb d_EM_init_94 (lv_at hl 0 rfl) ?_
          refine lv_iload_n hx hb d_EM_init_96 rfl (lv_at hl 1 rfl) ?_
          refine zr_div hx hb (by omega) (by omega) (by omega) d_EM_init_97 ?_
          refine zr_top (y := nI S) (congrArg nI hSe.symm) ?_
          refine lv_iconst (v := nI 1) hx hb d_EM_init_98 (by decide) ?_
          refine zr_add hx hb d_EM_init_99 ?_
          refine zr_mul hx hb d_EM_init_100 ?_
          refine zr_top (y := nI (S * w + w)) (congrArg nI (by rw [Nat.mul_comm, Nat.succ_mul])) ?_
          refine em_putF C hnm hw rfl lk_EM_2 rfl rfl rfl (Nat.le_of_ble_eq_true rfl) (W1 := [(o, .inr (1, [.int 0, .int (nI w), .int (nI (S * w + w)), .int 0, .int 0, .int 0, .int 0, .int 0, .int 0, .int 0, .int 0, .int 0, .int 0, .int 0, .int 0, .ref a1, .ref a2, .ref a3, .ref a4])), (a1, .inl (cI, 2064, .inl (fun _ => 0))), (a2, .inl (cI, 2064, .inl (fun _ => 0))), (a3, .inl (cI, 2064, .inl (fun _ => 0))), (a4, .inl (cZ, 2064, .inl (fun _ => 0)))]) rfl d_EM_init_101 (fun H locs hw => ?_)
          refine W.widen (k := 4) (n := 8256) (by omega) (by omega) ?_
          exact zr_vret C (qL [o, a1, a2, a3, a4]) rfl hw d_EM_init_104
      · refine lv_iconst (v := nI 1) hx hb d_EM_init_67 (by decide) ?_
        refine lv_goto (tgt := 85) hx hb d_EM_init_68 (by decide) ?_
        refine zr_top (y := nI s0) (by rw [← hse]; first | exact em_cl1 h64 | exact em_cl2 (M := 2000) (by decide) h64 h75 | exact em_cl3 (M := 2000) h64 h75) ?_
        refine lv_istore (lv' := [(4, .int (nI s0)), (3, .int (nI w)), (0, .ref o), (1, .int wx), (2, .int sx)]) hx hb d_EM_init_85 hl (by decide) rfl (fun ls hl => ?_)
        refine lv_aload_n hx hb d_EM_init_87 rfl (lv_at hl 2 rfl) ?_
        refine lv_iload_n hx hb d_EM_init_88 rfl (lv_at hl 1 rfl) ?_
        refine em_putF C hnm hw rfl lk_EM_1 rfl rfl rfl (Nat.le_of_ble_eq_true rfl) (W1 := [(o, .inr (1, [.int 0, .int (nI w), .int 0, .int 0, .int 0, .int 0, .int 0, .int 0, .int 0, .int 0, .int 0, .int 0, .int 0, .int 0, .int 0, .ref a1, .ref a2, .ref a3, .ref a4])), (a1, .inl (cI, 2064, .inl (fun _ => 0))), (a2, .inl (cI, 2064, .inl (fun _ => 0))), (a3, .inl (cI, 2064, .inl (fun _ => 0))), (a4, .inl (cZ, 2064, .inl (fun _ => 0)))]) rfl d_EM_init_89 (fun H locs hw => ?_)
        refine lv_aload_n hx hb d_EM_init_92 rfl (lv_at hl 2 rfl) ?_
        refine lv_iload_n hx hb d_EM_init_93 rfl (lv_at hl 1 rfl) ?_
        refine lv_iload hx hb d_EM_init_94 (lv_at hl 0 rfl) ?_
        refine lv_iload_n hx hb d_EM_init_96 rfl (lv_at hl 1 rfl) ?_
        refine zr_div hx hb (by omega) (by omega) (by omega) d_EM_init_97 ?_
        refine zr_top (y := nI S) (congrArg nI hSe.symm) ?_
        refine lv_iconst (v := nI 1) hx hb d_EM_init_98 (by decide) ?_
        refine zr_add hx hb d_EM_init_99 ?_
        refine zr_mul hx hb d_EM_init_100 ?_
        refine zr_top (y := nI (S * w + w)) (congrArg nI (by rw [Nat.mul_comm, Nat.succ_mul])) ?_
        refine em_putF C hnm hw rfl lk_EM_2 rfl rfl rfl (Nat.le_of_ble_eq_true rfl) (W1 := [(o, .inr (1, [.int 0, .int (nI w), .int (nI (S * w + w)), .int 0, .int 0, .int 0, .int 0, .int 0, .int 0, .int 0, .int 0, .int 0, .int 0, .int 0, .int 0, .ref a1, .ref a2, .ref a3, .ref a4])), (a1, .inl (cI, 2064, .inl (fun _ => 0))), (a2, .inl (cI, 2064, .inl (fun _ => 0))), (a3, .inl (cI, 2064, .inl (fun _ => 0))), (a4, .inl (cZ, 2064, .inl (fun _ => 0)))]) rfl d_EM_init_101 (fun H locs hw => ?_)
        refine W.widen (k := 4) (n := 8256) (by omega) (by omega) ?_
        exact zr_vret C (qL [o, a1, a2, a3, a4]) rfl hw d_EM_init_104
  · refine lv_iconst (v := nI 1) hx hb d_EM_init_45 (by decide) ?_
    refine lv_goto (tgt := 61) hx hb d_EM_init_46 (by decide) ?_
    refine zr_top (y := nI w) (by rw [hwe]; first | exact em_cl1 h42 | exact em_cl2 (M := 64) (by decide) h42 h52 | exact em_cl3 (M := 64) h42 h52) ?_
    refine lv_istore_n (lv' := [(3, .int (nI w)), (0, .ref o), (1, .int wx), (2, .int sx)]) hx hb d_EM_init_61 rfl hl (by decide) rfl (fun ls hl => ?_)
    refine lv_iload_n hx hb d_EM_init_62 rfl (lv_at hl 3 rfl) ?_
    refine lv_iconst (v := nI 1) hx hb d_EM_init_63 (by decide) ?_
    refine lv_icmp_ge (tgt := 71) hx hb d_EM_init_64 (by decide) (fun h64 => ?_) (fun h64 => ?_)
    · refine lv_iload_n hx hb d_EM_init_71 rfl (lv_at hl 3 rfl) ?_
      refine lv_sipush (v := nI 2000) hx hb d_EM_init_72 (by decide) ?_
      refine lv_icmp_le (tgt := 84) hx hb d_EM_init_75 (by decide) (fun h75 => ?_) (fun h75 => ?_)
      · refine lv_iload_n hx hb d_EM_init_84 rfl (lv_at hl 3 rfl) ?_
        refine zr_top (y := nI s0) (by rw [← hse]; first | exact em_cl1 h64 | exact em_cl2 (M := 2000) (by decide) h64 h75 | exact em_cl3 (M := 2000) h64 h75) ?_
        refine lv_istore (lv' := [(4, .int (nI s0)), (3, .int (nI w)), (0, .ref o), (1, .int wx), (2, .int sx)]) hx hb d_EM_init_85 hl (by decide) rfl (fun ls hl => ?_)
        refine lv_aload_n hx hb d_EM_init_87 rfl (lv_at hl 2 rfl) ?_
        refine lv_iload_n hx hb d_EM_init_88 rfl (lv_at hl 1 rfl) ?_
        refine em_putF C hnm hw rfl lk_EM_1 rfl rfl rfl (Nat.le_of_ble_eq_true rfl) (W1 := [(o, .inr (1, [.int 0, .int (nI w), .int 0, .int 0, .int 0, .int 0, .int 0, .int 0, .int 0, .int 0, .int 0, .int 0, .int 0, .int 0, .int 0, .ref a1, .ref a2, .ref a3, .ref a4])), (a1, .inl (cI, 2064, .inl (fun _ => 0))), (a2, .inl (cI, 2064, .inl (fun _ => 0))), (a3, .inl (cI, 2064, .inl (fun _ => 0))), (a4, .inl (cZ, 2064, .inl (fun _ => 0)))]) rfl d_EM_init_89 (fun H locs hw => ?_)
        refine lv_aload_n hx hb d_EM_init_92 rfl (lv_at hl 2 rfl) ?_
        refine lv_iload_n hx hb d_EM_init_93 rfl (lv_at hl 1 rfl) ?_
        refine lv_iload hx hb d_EM_init_94 (lv_at hl 0 rfl) ?_
        refine lv_iload_n hx hb d_EM_init_96 rfl (lv_at hl 1 rfl) ?_
        refine zr_div hx hb (by omega) (by omega) (by omega) d_EM_init_97 ?_
        refine zr_top (y := nI S) (congrArg nI hSe.symm) ?_
        refine lv_iconst (v := nI 1) hx hb d_EM_init_98 (by decide) ?_
        refine zr_add hx hb d_EM_init_99 ?_
        refine zr_mul hx hb d_EM_init_100 ?_
        refine zr_top (y := nI (S * w + w)) (congrArg nI (by rw [Nat.mul_comm, Nat.succ_mul])) ?_
        refine em_putF C hnm hw rfl lk_EM_2 rfl rfl rfl (Nat.le_of_ble_eq_true rfl) (W1 := [(o, .inr (1, [.int 0, .int (nI w), .int (nI (S * w + w)), .int 0, .int 0, .int 0, .int 0, .int 0, .int 0, .int 0, .int 0, .int 0, .int 0, .int 0, .int 0, .ref a1, .ref a2, .ref a3, .ref a4])), (a1, .inl (cI, 2064, .inl (fun _ => 0))), (a2, .inl (cI, 2064, .inl (fun _ => 0))), (a3, .inl (cI, 2064, .inl (fun _ => 0))), (a4, .inl (cZ, 2064, .inl (fun _ => 0)))]) rfl d_EM_init_101 (fun H locs hw => ?_)
        refine W.widen (k := 4) (n := 8256) (by omega) (by omega) ?_
        exact zr_vret C (qL [o, a1, a2, a3, a4]) rfl hw d_EM_init_104
      · refine lv_sipush (v := nI 2000) hx hb d_EM_init_78 (by decide) ?_
        refine lv_goto (tgt := 85) hx hb d_EM_init_81 (by decide) ?_
        refine zr_top (y := nI s0) (by rw [← hse]; first | exact em_cl1 h64 | exact em_cl2 (M := 2000) (by decide) h64 h75 | exact em_cl3 (M := 2000) h64 h75) ?_
        refine lv_istore (lv' := [(4, .int (nI s0)), (3, .int (nI w)), (0, .ref o), (1, .int wx), (2, .int sx)]) hx hb d_EM_init_85 hl (by decide) rfl (fun ls hl => ?_)
        refine lv_aload_n hx hb d_EM_init_87 rfl (lv_at hl 2 rfl) ?_
        refine lv_iload_n hx hb d_EM_init_88 rfl (lv_at hl 1 rfl) ?_
        refine em_putF C hnm hw rfl lk_EM_1 rfl rfl rfl (Nat.le_of_ble_eq_true rfl) (W1 := [(o, .inr (1, [.int 0, .int (nI w), .int 0, .int 0, .int 0, .int 0, .int 0, .int 0, .int 0, .int 0, .int 0, .int 0, .int 0, .int 0, .int 0, .ref a1, .ref a2, .ref a3, .ref a4])), (a1, .inl (cI, 2064, .inl (fun _ => 0))), (a2, .inl (cI, 2064, .inl (fun _ => 0))), (a3, .inl (cI, 2064, .inl (fun _ => 0))), (a4, .inl (cZ, 2064, .inl (fun _ => 0)))]) rfl d_EM_init_89 (fun H locs hw => ?_)
        refine lv_aload_n hx hb d_EM_init_92 rfl (lv_at hl 2 rfl) ?_
        refine lv_iload_n hx hb d_EM_init_93 rfl (lv_at hl 1 rfl) ?_
        refine lv_iload hx hb d_EM_init_94 (lv_at hl 0 rfl) ?_
        refine lv_iload_n hx hb d_EM_init_96 rfl (lv_at hl 1 rfl) ?_
        refine zr_div hx hb (by omega) (by omega) (by omega) d_EM_init_97 ?_
        refine zr_top (y := nI S) (congrArg nI hSe.symm) ?_
        refine lv_iconst (v := nI 1) hx hb d_EM_init_98 (by decide) ?_
        refine zr_add hx hb d_EM_init_99 ?_
        refine zr_mul hx hb d_EM_init_100 ?_
        refine zr_top (y := nI (S * w + w)) (congrArg nI (by rw [Nat.mul_comm, Nat.succ_mul])) ?_
        refine em_putF C hnm hw rfl lk_EM_2 rfl rfl rfl (Nat.le_of_ble_eq_true rfl) (W1 := [(o, .inr (1, [.int 0, .int (nI w), .int (nI (S * w + w)), .int 0, .int 0, .int 0, .int 0, .int 0, .int 0, .int 0, .int 0, .int 0, .int 0, .int 0, .int 0, .ref a1, .ref a2, .ref a3, .ref a4])), (a1, .inl (cI, 2064, .inl (fun _ => 0))), (a2, .inl (cI, 2064, .inl (fun _ => 0))), (a3, .inl (cI, 2064, .inl (fun _ => 0))), (a4, .inl (cZ, 2064, .inl (fun _ => 0)))]) rfl d_EM_init_101 (fun H locs hw => ?_)
        refine W.widen (k := 4) (n := 8256) (by omega) (by omega) ?_
        exact zr_vret C (qL [o, a1, a2, a3, a4]) rfl hw d_EM_init_104
    · refine lv_iconst (v := nI 1) hx hb d_EM_init_67 (by decide) ?_
      refine lv_goto (tgt := 85) hx hb d_EM_init_68 (by decide) ?_
      refine zr_top (y := nI s0) (by rw [← hse]; first | exact em_cl1 h64 | exact em_cl2 (M := 2000) (by decide) h64 h75 | exact em_cl3 (M := 2000) h64 h75) ?_
      refine lv_istore (lv' := [(4, .int (nI s0)), (3, .int (nI w)), (0, .ref o), (1, .int wx), (2, .int sx)]) hx hb d_EM_init_85 hl (by decide) rfl (fun ls hl => ?_)
      refine lv_aload_n hx hb d_EM_init_87 rfl (lv_at hl 2 rfl) ?_
      refine lv_iload_n hx hb d_EM_init_88 rfl (lv_at hl 1 rfl) ?_
      refine em_putF C hnm hw rfl lk_EM_1 rfl rfl rfl (Nat.le_of_ble_eq_true rfl) (W1 := [(o, .inr (1, [.int 0, .int (nI w), .int 0, .int 0, .int 0, .int 0, .int 0, .int 0, .int 0, .int 0, .int 0, .int 0, .int 0, .int 0, .int 0, .ref a1, .ref a2, .ref a3, .ref a4])), (a1, .inl (cI, 2064, .inl (fun _ => 0))), (a2, .inl (cI, 2064, .inl (fun _ => 0))), (a3, .inl (cI, 2064, .inl (fun _ => 0))), (a4, .inl (cZ, 2064, .inl (fun _ => 0)))]) rfl d_EM_init_89 (fun H locs hw => ?_)
      refine lv_aload_n hx hb d_EM_init_92 rfl (lv_at hl 2 rfl) ?_
      refine lv_iload_n hx hb d_EM_init_93 rfl (lv_at hl 1 rfl) ?_
      refine lv_iload hx hb d_EM_init_94 (lv_at hl 0 rfl) ?_
      refine lv_iload_n hx hb d_EM_init_96 rfl (lv_at hl 1 rfl) ?_
      refine zr_div hx hb (by omega) (by omega) (by omega) d_EM_init_97 ?_
      refine zr_top (y := nI S) (congrArg nI hSe.symm) ?_
      refine lv_iconst (v := nI 1) hx hb d_EM_init_98 (by decide) ?_
      refine zr_add hx hb d_EM_init_99 ?_
      refine zr_mul hx hb d_EM_init_100 ?_
      refine zr_top (y := nI (S * w + w)) (congrArg nI (by rw [Nat.mul_comm, Nat.succ_mul])) ?_
      refine em_putF C hnm hw rfl lk_EM_2 rfl rfl rfl (Nat.le_of_ble_eq_true rfl) (W1 := [(o, .inr (1, [.int 0, .int (nI w), .int (nI (S * w + w)), .int 0, .int 0, .int 0, .int 0, .int 0, .int 0, .int 0, .int 0, .int 0, .int 0, .int 0, .int 0, .ref a1, .ref a2, .ref a3, .ref a4])), (a1, .inl (cI, 2064, .inl (fun _ => 0))), (a2, .inl (cI, 2064, .inl (fun _ => 0))), (a3, .inl (cI, 2064, .inl (fun _ => 0))), (a4, .inl (cZ, 2064, .inl (fun _ => 0)))]) rfl d_EM_init_101 (fun H locs hw => ?_)
      refine W.widen (k := 4) (n := 8256) (by omega) (by omega) ?_
      exact zr_vret C (qL [o, a1, a2, a3, a4]) rfl hw d_EM_init_104
end INIT
end
section
/-! ===== the law's helpers: cell, feedMany, group, count; the throwing roads of ExternalSorter (walks printed by gen/el1.py) ===== -/
set_option maxHeartbeats 4000000 in
set_option maxRecDepth 100000 in
theorem c_ES_group_t {l : Launch} (hfl : l.flags = pinnedFlags ++ [noTraceFlag]) {o : Nat} {n4 : Int32} (hn : n4 < 0 ∨ 3 < n4) : MetT l y_ES_group b_ES_group 2 (some .int) { frames := 6, cells := 1, slots := 6, locals := 81 } [.ref o, .int n4] := by
  refine MetT.of (by decide) (Nat.le_of_ble_eq_true rfl) ?_
  intro p e s m below meth c ls C hne hTA hl
  have hx := C.1.1
  have hb := C.1.2.1
  have hl : lv_has ls 2 [(0, .ref o), (1, .int n4)] := hl
  refine lv_iload_n hx hb d_ES_group_0 rfl (lv_at hl 1 rfl) ?_
  refine lv_if_lt (tgt := 9) hx hb d_ES_group_1 (by decide) (fun h1 => ?_) (fun h1 => ?_)
  · exact zr_throw hfl C hne hTA hl.1 d_ES_group_9 d_ES_group_12 d_ES_group_13 d_ES_group_16 (Nat.le_of_ble_eq_true rfl) (Nat.le_of_ble_eq_true rfl) (Nat.le_of_ble_eq_true rfl) (Nat.le_of_ble_eq_true rfl)
  · refine lv_iload_n hx hb d_ES_group_4 rfl (lv_at hl 1 rfl) ?_
    refine lv_iconst (v := 3) hx hb d_ES_group_5 (by decide) ?_
    refine lv_icmp_le (tgt := 17) hx hb d_ES_group_6 (by decide) (fun h6 => ?_) (fun h6 => ?_)
    · exact absurd hn (fun z => z.elim h1 (Int32.not_lt.mpr h6))
    · exact zr_throw hfl C hne hTA hl.1 d_ES_group_9 d_ES_group_12 d_ES_group_13 d_ES_group_16 (Nat.le_of_ble_eq_true rfl) (Nat.le_of_ble_eq_true rfl) (Nat.le_of_ble_eq_true rfl) (Nat.le_of_ble_eq_true rfl)
set_option maxHeartbeats 4000000 in
set_option maxRecDepth 100000 in
theorem c_ES_count_t {l : Launch} (hfl : l.flags = pinnedFlags ++ [noTraceFlag]) {o : Nat} {n4 : Int32} (hn : n4 < 0 ∨ 3 < n4) : MetT l y_ES_count b_ES_count 4 (some .int) { frames := 6, cells := 1, slots := 6, locals := 81 } [.ref o, .int n4] := by
  refine MetT.of (by decide) (Nat.le_of_ble_eq_true rfl) ?_
  intro p e s m below meth c ls C hne hTA hl
  have hx := C.1.1
  have hb := C.1.2.1
  have hl : lv_has ls 4 [(0, .ref o), (1, .int n4)] := hl
  refine lv_iload_n hx hb d_ES_count_0 rfl (lv_at hl 1 rfl) ?_
  refine lv_if_lt (tgt := 9) hx hb d_ES_count_1 (by decide) (fun h1 => ?_) (fun h1 => ?_)
  · exact zr_throw hfl C hne hTA hl.1 d_ES_count_9 d_ES_count_12 d_ES_count_13 d_ES_count_16 (Nat.le_of_ble_eq_true rfl) (Nat.le_of_ble_eq_true rfl) (Nat.le_of_ble_eq_true rfl) (Nat.le_of_ble_eq_true rfl)
  · refine lv_iload_n hx hb d_ES_count_4 rfl (lv_at hl 1 rfl) ?_
    refine lv_iconst (v := 3) hx hb d_ES_count_5 (by decide) ?_
    refine lv_icmp_le (tgt := 17) hx hb d_ES_count_6 (by decide) (fun h6 => ?_) (fun h6 => ?_)
    · exact absurd hn (fun z => z.elim h1 (Int32.not_lt.mpr h6))
    · exact zr_throw hfl C hne hTA hl.1 d_ES_count_9 d_ES_count_12 d_ES_count_13 d_ES_count_16 (Nat.le_of_ble_eq_true rfl) (Nat.le_of_ble_eq_true rfl) (Nat.le_of_ble_eq_true rfl) (Nat.le_of_ble_eq_true rfl)
set_option maxHeartbeats 4000000 in
set_option maxRecDepth 100000 in
theorem c_ES_feedMany_t {l : Launch} (hfl : l.flags = pinnedFlags ++ [noTraceFlag]) {o : Nat} {kx stp vy n4 : Int32} (hn : n4 < 0 ∨ 200 < n4) : MetT l y_ES_feedMany b_ES_feedMany 6 (some .int) { frames := 6, cells := 1, slots := 6, locals := 81 } [.ref o, .int kx, .int stp, .int vy, .int n4] := by
  refine MetT.of (by decide) (Nat.le_of_ble_eq_true rfl) ?_
  intro p e s m below meth c ls C hne hTA hl
  have hx := C.1.1
  have hb := C.1.2.1
  have hl : lv_has ls 6 [(0, .ref o), (1, .int kx), (2, .int stp), (3, .int vy), (4, .int n4)] := hl
  refine lv_iload hx hb d_ES_feedMany_0 (lv_at hl 4 rfl) ?_
  refine lv_if_lt (tgt := 13) hx hb d_ES_feedMany_2 (by decide) (fun h2 => ?_) (fun h2 => ?_)
  · exact zr_throw hfl C hne hTA hl.1 d_ES_feedMany_13 d_ES_feedMany_16 d_ES_feedMany_17 d_ES_feedMany_20 (Nat.le_of_ble_eq_true rfl) (Nat.le_of_ble_eq_true rfl) (Nat.le_of_ble_eq_true rfl) (Nat.le_of_ble_eq_true rfl)
  · refine lv_iload hx hb d_ES_feedMany_5 (lv_at hl 4 rfl) ?_
    refine lv_sipush (v := 200) hx hb d_ES_feedMany_7 (by decide) ?_
    refine lv_icmp_le (tgt := 21) hx hb d_ES_feedMany_10 (by decide) (fun h10 => ?_) (fun h10 => ?_)
    · exact absurd hn (fun z => z.elim h2 (Int32.not_lt.mpr h10))
    · exact zr_throw hfl C hne hTA hl.1 d_ES_feedMany_13 d_ES_feedMany_16 d_ES_feedMany_17 d_ES_feedMany_20 (Nat.le_of_ble_eq_true rfl) (Nat.le_of_ble_eq_true rfl) (Nat.le_of_ble_eq_true rfl) (Nat.le_of_ble_eq_true rfl)
section ZL
variable {p : Program} {l : Launch} {e : Env} {R : Room} {s : State} {m : MethodId} {args : Array Value} {below : List Frame} {meth : Method} {c : Code} {H : Heap} {locs : List Loc} {cells slots : Nat} {Q : State → Prop}
variable {cc : ByteArray} {pc nL : Nat} {rt : Option FieldType} {ls : Array Slot} {rest : List Value} {D : va_G} {A : Nat → Prop} {tys : List (ClassId × FieldType)} {W0 : va_W} {own : String}
theorem Wd.grow (hw : Wd D tys A s H locs W0) {H1 : Heap} (h1 : H.size ≤ H1.size) (h2 : ∀ (q : Nat) (cell : Cell), H[q]? = some cell → H1[q]? = some cell) : Wd D tys A s H1 locs W0 := by
  obtain ⟨hK, hP, hD, hS⟩ := hw
  have key : ∀ q : Nat, q < H.size → H1[q]? = H[q]? := fun q hq => by
    rw [h2 q H[q] (Array.getElem?_eq_getElem hq), Array.getElem?_eq_getElem hq]
  exact ⟨hK, hP.kept (fun k q hk => key q.1 (hP k q hk).lt), hD, Nat.le_trans hS.1 h1, fun q h3 h4 => (key q (Nat.lt_of_lt_of_le h3 hS.1)).trans (hS.2.1 q h3 h4), hS.2.2⟩
/-- the script, by a natural for the index -/
theorem zr_sld (C : Cx p m meth c cc nL rt s args own) {b L : Nat} {xs : Nat → Int32} (hX : va_X b L xs s s.heap) (hbl : b < s.heap.size) (hbA : ¬ A b) (hw : Wd D tys A s H locs W0) {i : Nat} (hi : i < L) (hL : L < 2 ^ 31) (hdg : decode cc pc = .ok (.iaload, 1))
    (kk : W p l e R s m args below meth c H locs cells slots Q (F0 m (pc + 1) ls (.int (xs i) :: rest))) : W p l e R s m args below meth c H locs cells slots Q (F0 m pc ls (.int (nI i) :: .ref b :: rest)) :=
  va_sld C.1.1 C.1.2.1 hX hbl hbA hw.2.2.2 (vp_in_nI hi hL) hdg (by rw [nI_clamp (Nat.lt_trans hi hL)]; exact kk)
/-- an array of longs -/
theorem zr_lst (C : Cx p m meth c cc nL rt s args own) (hw : Wd D tys A s H locs W0) (q0 t0 : Nat) {a : Nat} {cA : ClassId} {n i : Nat} {f : Nat → Int64} {v : Int64} (ha : W0[q0]? = some (a, .inl (cA, n, .inr (.inl f)))) (ht : tys[t0]? = some (cA, .long)) (hi : i < n) (hn : n < 2 ^ 31) {W1 : va_W} (hW : W0.set q0 (a, .inl (cA, n, .inr (.inl (vp_updL f i v)))) = W1) (hdg : decode cc pc = .ok (.lastore, 1))
    (kk : ∀ (H : Heap) (locs : List Loc), Wd D tys A s H locs W1 → W p l e R s m args below meth c H locs cells slots Q (F0 m (pc + 1) ls rest)) : W p l e R s m args below meth c H locs cells slots Q (F0 m pc ls (.long v :: .int (nI i) :: .ref a :: rest)) := by
  subst hW
  refine va_last C.1.1 C.1.2.1 hw.1 hw.2.1 hw.2.2.1 hw.2.2.2 q0 t0 ha ht (vp_in_nI hi hn) hdg (fun H1 locs1 a b d => kk H1 locs1 ⟨hw.1, ?_, ?_, d⟩)
  · rw [nI_clamp (Nat.lt_trans hi hn)] at a; exact a
  · rw [nI_clamp (Nat.lt_trans hi hn)] at b; exact b
theorem zr_lld (C : Cx p m meth c cc nL rt s args own) (hw : Wd D tys A s H locs W0) (q0 t0 : Nat) {a : Nat} {cA : ClassId} {n i : Nat} {f : Nat → Int64} {v : Int64} (ha : W0[q0]? = some (a, .inl (cA, n, .inr (.inl f)))) (ht : tys[t0]? = some (cA, .long)) (hi : i < n) (hn : n < 2 ^ 31) (hv : f i = v) (hdg : decode cc pc = .ok (.laload, 1))
    (kk : W p l e R s m args below meth c H locs cells slots Q (F0 m (pc + 1) ls (.long v :: rest))) : W p l e R s m args below meth c H locs cells slots Q (F0 m pc ls (.int (nI i) :: .ref a :: rest)) :=
  va_lald C.1.1 C.1.2.1 hw.1 hw.2.1 q0 t0 ha ht (vp_in_nI hi hn) hdg (by rw [nI_clamp (Nat.lt_trans hi hn), hv]; exact kk)
end ZL
/-! a static method with a handler: its contract, and its call -/
def MetX {S : Type} (l : Launch) (y : MethodName) (b : ByteArray) (n : Nat) (rt : Option FieldType) (hh : List (Nat × Nat × Nat × Nat)) (rm : Room) (D : va_G) (tys : List (ClassId × FieldType)) (av : List Value) (W0 : va_W) (sz : Nat) (post : Int32 → S → Prop) (W1 : S → va_W) : Prop :=
  Met l y (.codeWith y b n rt hh :: tb) rm (va_Pc av (fun U => cPre D tys W0 sz U ∧ TA U)) (va_Qi post (cB D tys (va_A W0 sz) W1) (va_A W0 sz)) rm.cells rm.slots (va_A W0 sz)
theorem MetX.of {S : Type} {l : Launch} {y : MethodName} {b : ByteArray} {n : Nat} {rt : Option FieldType} {hh : List (Nat × Nat × Nat × Nat)} {rm : Room} {D : va_G} {tys : List (ClassId × FieldType)} {av : List Value} {W0 : va_W} {sz : Nat} {post : Int32 → S → Prop} {W1 : S → va_W} (hy : plainName y.cls = true) (hav : (lg_sl av).length ≤ n)
    (body : ∀ (p : Program) (e : Env) (s : State) (m : MethodId) (below : List Frame) (meth : Method) (c : Code) (A : Nat → Prop) (ls : Array Slot), Cx p m meth c b n rt s av.toArray y.cls → c.exceptionTable.toList.map (fun h => (h.startPc, h.endPc, h.handlerPc, h.catchType)) = hh → TA s → (∀ q : Nat, s.heap.size ≤ q → A q) → Wd D tys A s s.heap [] W0 → lv_has ls n (lv_args 0 av) →
      W p l e rm s m av.toArray below meth c s.heap [] 0 0 (MQ below (va_Qi post (cB D tys A W1) A) av.toArray s rm.cells rm.slots A) (F0 m 0 ls [])) : MetX l y b n rt hh rm D tys av W0 sz post W1 := by
  refine va_MetW (cc := b) (maxL := n) (ret := rt) (hh := hh) hy rfl ?_
  intro p e s m args below meth c s₁ B hml hv
  obtain ⟨rfl, ⟨hsz, hP, hK, hD0⟩, hTA⟩ := hv
  have hts := atoms_spec (ws := .codeWith y b n rt hh :: tb) B.pre
  have hown : s.vm.findClass y.cls = some m.cls := findClass_of_methodNamed B.named
  have htab : c.exceptionTable.toList.map (fun h => (h.startPc, h.endPc, h.handlerPc, h.catchType)) = hh := by
    obtain ⟨m9, meth9, c9, g1, g2, g3, -, -, g6, -⟩ := Cond.codeWith_spec (hts _ List.mem_cons_self)
    cases B.named.symm.trans g1
    cases B.method.symm.trans g2
    cases (Stand.of_body B).code.symm.trans g3
    exact g6
  subst hsz
  rw [lg_entry_eq]
  exact body p e s m below meth c (va_A W0 s.heap.size) _ ⟨⟨B.exec, B.bytes, hml, hown, fun w hw => hts w (List.mem_cons_of_mem _ hw)⟩, B.returns, B.notSynchronized⟩ htab hTA (fun q h => Or.inr h) ⟨hK, hP, hD0.self, va_S.rf⟩ (lv_entry av hav)
section ZX
variable {p : Program} {l : Launch} {e : Env} {R : Room} {s : State} {m : MethodId} {args : Array Value} {below : List Frame} {meth : Method} {c : Code} {H : Heap} {locs : List Loc} {cells slots : Nat} {Q : State → Prop}
variable {cc : ByteArray} {pc nL : Nat} {rt : Option FieldType} {ls : Array Slot} {rest : List Value} {D : va_G} {A : Nat → Prop} {tys : List (ClassId × FieldType)} {W0 : va_W} {own : String}
theorem zr_callX {S : Type} {post : Int32 → S → Prop} {W1 : S → va_W} {y : MethodName} {b : ByteArray} {n : Nat} {rt' : Option FieldType} {hh : List (Nat × Nat × Nat × Nat)} {rm : Room} {As st0 : List Value} {Wc wr : va_W} {idx : Nat} (C : Cx p m meth c cc nL rt s args own) (hM : MetX l y b n rt' hh rm D tys As Wc H.size post W1)
    (hg : ∀ w ∈ ([.methodLink own idx y, .static y, .initialized y.cls, .codeWith y b n rt' hh] : List Cond), w ∈ tb) (hd : y.cls ≠ "java/lang/invoke/MethodHandle" ∧ y.cls ≠ "java/lang/invoke/VarHandle" ∧ (parseMethodDescriptor y.desc).map (fun d => d.parameters.length) = some As.length) (hrm : rm.frames + 1 ≤ R.frames ∧ 8 + (n + 11) + rm.locals ≤ R.locals)
    (isC isR : List Nat) (hC : isC.map (fun i => W0[i]?) = Wc.map some) (hR : isR.map (fun i => W0[i]?) = wr.map some) (hnC : va_nd isC = true) (hn : va_nd isR = true) (hdis : ∀ i ∈ isR, i ∉ isC) (hw : Wd D tys A s H locs W0) (hTA : ∀ U : State, U.heap = H → s.WarmedH U.vm → TA U) (hA : ∀ q : Nat, s.heap.size ≤ q → A q) (hls : ls.size = nL) (hst : st0 = As.reverse ++ rest) (hro : (rest.map fun v => v.category).sum ≤ 8) (hdg : decode cc pc = .ok (.invokestatic idx, 3)) (hf : cells + rm.cells ≤ R.cells ∧ slots + rm.slots ≤ R.slots)
    (kk : ∀ (r : Int32) (u : S) (H : Heap) (locs : List Loc), post r u → Wd D tys A s H locs (wr ++ W1 u) → W p l e R s m args below meth c H locs (cells + rm.cells) (slots + rm.slots) Q (F0 m (pc + 3) ls (.int r :: rest))) : W p l e R s m args below meth c H locs cells slots Q (F0 m pc ls st0) := by
  subst hst
  obtain ⟨hK, hP, hD, hS⟩ := hw
  have hPc : va_P D classes Wc H := hP.sub isC (zr_get hC)
  have hDc := hD.sub isC hnC hC
  have hFc := va_free hD hS hA isC hC
  obtain ⟨⟨hx, hb, hml, hown, hts⟩, hr, hlocks⟩ := C
  have hlink := hts _ (hg (.methodLink own idx y) (by simp))
  have hstat := hts _ (hg (.static y) (by simp))
  have hini := hts _ (hg (.initialized y.cls) (by simp))
  have hcode := hts _ (hg (.codeWith y b n rt' hh) (by simp))
  have hws : ∀ w ∈ (Cond.codeWith y b n rt' hh :: tb), ∀ (a' : Array Value) (U : State), s.WarmedH U.vm → w.before a' U = true := fun w hw a' U hW => by
    have hwt : w ∈ tb := by
      rcases List.mem_cons.mp hw with h | h
      · rw [h]; exact hg _ (by simp)
      · exact h
    exact word_at hW (tb_good w hwt) (hts w hwt)
  have hbl : FrameBlind (va_Pc As (fun U => cPre D tys Wc H.size U ∧ TA U)) := fun a U g mk q => by
    obtain ⟨q0, ⟨q1, qP, qK, qD⟩, qT⟩ := q
    exact ⟨q0, ⟨q1, qP, va_K.moved (u := U) (U := U.calling g mk a) (Vm.Alike.refl U.vm) qK, qD⟩, qT.ext (U := U.calling g mk a) (State.WarmedH.refl U) (fun _ _ h => h)⟩
  have hB : Back l R p e below s args y 3 8 (PreOf R rm.cells rm.slots (va_Pc As (fun U => cPre D tys Wc H.size U ∧ TA U))) (PostOf (va_Qi post (cB D tys (va_A Wc H.size) W1) (va_A Wc H.size)) rm.cells rm.slots (va_A Wc H.size)) :=
    va_backW hM hbl rfl rfl hrm.1 hrm.2 hws List.mem_cons_self (fun a' U hW => word_at hW (Or.inl rfl) hini)
  have hrun : va_Run p l e R s m args below meth c H locs cells slots rm.cells rm.slots (F0 m pc ls (As.reverse ++ rest)) rest (va_Qi post (cB D tys (va_A Wc H.size) W1) (va_A Wc H.size) As.toArray) (va_A Wc H.size) := by
    intro T hT X
    obtain ⟨mk, methM, cM, hnamed, hmethM, hcM, -, -, -, -, -, hsigM⟩ := Cond.codeWith_spec hcode
    have hstatic : methM.isStatic = true := Cond.static_spec hnamed hmethM hstat
    obtain ⟨kP, hkP, -⟩ := className_of_methodNamed hnamed
    have hinitP : kP.init = .initialized := Cond.initialized_spec (findClass_of_methodNamed hnamed) hkP hini
    have hlen : As.length = methM.sig.parameters.length := by
      have h2 := hd.2.2
      rw [hsigM] at h2
      exact (Option.some.inj h2).symm
    subst hb
    obtain ⟨vm₁, X₁, hstep₁⟩ := X.invokestatic hx hown hlink hnamed hmethM hstatic hkP hinitP ⟨hd.1, hd.2.1⟩ (g := F0 m pc ls (As.reverse ++ rest)) rfl (argsL := As) (rest := rest) hlen rfl hdg
    obtain ⟨v, ⟨U', l2, c2, s2⟩, X', ⟨g', mk', t, L, e1, e2, hq, h1, hL, h2, h3⟩, hsteps⟩ := hB m meth c ⟨T.setVm vm₁, locs, cells, slots⟩ (F0 m pc ls rest) (.invokestatic idx) mk As.toArray X₁ rfl (hls.trans hml.symm) hdg (lv_room hro) (X₁.named hnamed)
      ⟨hf.1, hf.2, rfl, ⟨by show T.heap.size = _; rw [hT], by show va_P D classes Wc T.heap; rw [hT]; exact hPc, va_K.moved X₁.warmed.alike hK, hDc.weaken (fun _ _ _ _ => trivial)⟩, hTA _ hT X₁.warmed⟩
    dsimp only [Pt.U, Pt.locs, Pt.cells, Pt.slots] at X' e1 e2 h1 h2 h3 hsteps
    subst h1; subst h2; subst h3
    exact ⟨v, (T.setVm vm₁).calling g' mk' As.toArray, t, U', L, hT, X', hL, e1, e2, hq, fun target h => hstep₁ _ fun acts => by rw [doInvoke_state]; exact hsteps.trans h⟩
  refine va_calli hrun hS (fun q _ h => hFc q h) hFc (fun r u t H1 locs1 ht hvm hpo hB1 hz1 hk1 hS1 => ?_)
  obtain ⟨hP1, hK1, hD1⟩ := hB1
  rw [ht] at hP1
  obtain ⟨hP2, hD2⟩ := va_join hP hD isC isR hC hR hn hdis hk1 hFc hP1 hD1
  exact kk r u H1 locs1 hpo ⟨hK, hP2, hD2, hS1⟩
end ZX
set_option maxHeartbeats 4000000 in
set_option maxRecDepth 100000 in
theorem c_EL_cell {l : Launch} {b L k : Nat} {xs : Nat → Int32} (hL : L < 2 ^ 31) (hk : k < 2 ^ 31) : Met l y_EL_cell (wd y_EL_cell b_EL_cell 2 (some .int)) (rmF 0 0) (va_Pc [.ref b, .int (nI k)] (fun U => va_X b L xs U U.heap ∧ b < U.heap.size)) (vp_Si (fun r => r = if k < L then xs k else 0)) 0 0 (fun _ => False) := by
  refine Met.ofW (cc := b_EL_cell) (maxL := 2) (ret := (some .int)) (by decide) rfl ?_
  intro p e s m args below meth c s₁ B hml hv
  obtain ⟨rfl, hX, hbl⟩ := hv
  have hx := B.exec
  have hb := B.bytes
  have hr := B.returns
  have hlocks := B.notSynchronized
  have hS : va_S (fun _ => False) s.heap s.heap [] := va_S.rf
  have hl := lv_entry ([.ref b, .int (nI k)]) (n := 2) (Nat.le_of_ble_eq_true rfl)
  rw [lg_entry_eq]
  generalize (lg_sl ([.ref b, .int (nI k)]) ++ List.replicate (2 - (lg_sl ([.ref b, .int (nI k)])).length) Slot.unset).toArray = ls at hl ⊢
  have hl : lv_has ls 2 [(0, .ref b), (1, .int (nI k))] := hl
  refine lv_iload_n hx hb d_EL_cell_0 rfl (lv_at hl 1 rfl) ?_
  refine lv_aload_n hx hb d_EL_cell_1 rfl (lv_at hl 0 rfl) ?_
  refine va_slen hx hb hX hbl (fun z => z) hS d_EL_cell_2 ?_
  refine zr_top (y := nI L) rfl ?_
  refine zr_cge hx hb hk hL (tgt := 12) d_EL_cell_3 (by decide) (fun h3 => ?_) (fun h3 => ?_)
  · refine lv_iconst (v := 0) hx hb d_EL_cell_12 (by decide) ?_
    exact W.iret hx hb hr (fun t ht hW => ⟨_, rfl, by first | (rw [if_pos h3]; done) | (rw [if_neg (by omega)]; done), ht⟩) (fun q h => by cases h) d_EL_cell_13
  · refine lv_aload_n hx hb d_EL_cell_6 rfl (lv_at hl 0 rfl) ?_
    refine lv_iload_n hx hb d_EL_cell_7 rfl (lv_at hl 1 rfl) ?_
    refine va_sld hx hb hX hbl (fun z => z) hS (vp_in_nI h3 hL) d_EL_cell_8 ?_
    refine zr_top (y := xs k) (by rw [nI_clamp hk]) ?_
    refine lv_goto (tgt := 13) hx hb d_EL_cell_9 (by decide) ?_
    exact W.iret hx hb hr (fun t ht hW => ⟨_, rfl, by first | (rw [if_pos h3]; done) | (rw [if_neg (by omega)]; done), ht⟩) (fun q h => by cases h) d_EL_cell_13
theorem h_ES_group : y_ES_group.cls ≠ "java/lang/invoke/MethodHandle" ∧ y_ES_group.cls ≠ "java/lang/invoke/VarHandle" ∧ (parseMethodDescriptor y_ES_group.desc).map (fun d => d.parameters.length) = some 1 := by decide +kernel
theorem g_EL_ES_group : GoodIn tb (wsV R_law 15 y_ES_group.cls y_ES_group (wd y_ES_group b_ES_group 2 (some .int))) := gd_V (by decide +kernel)
theorem h_ES_count : y_ES_count.cls ≠ "java/lang/invoke/MethodHandle" ∧ y_ES_count.cls ≠ "java/lang/invoke/VarHandle" ∧ (parseMethodDescriptor y_ES_count.desc).map (fun d => d.parameters.length) = some 1 := by decide +kernel
theorem g_EL_ES_count : GoodIn tb (wsV R_law 19 y_ES_count.cls y_ES_count (wd y_ES_count b_ES_count 4 (some .int))) := gd_V (by decide +kernel)
theorem h_ES_feedMany : y_ES_feedMany.cls ≠ "java/lang/invoke/MethodHandle" ∧ y_ES_feedMany.cls ≠ "java/lang/invoke/VarHandle" ∧ (parseMethodDescriptor y_ES_feedMany.desc).map (fun d => d.parameters.length) = some 4 := by decide +kernel
theorem g_EL_ES_feedMany : GoodIn tb (wsV R_law 7 y_ES_feedMany.cls y_ES_feedMany (wd y_ES_feedMany b_ES_feedMany 6 (some .int))) := gd_V (by decide +kernel)
section EL1
variable {l : Launch} {D : va_G} {cI cZ cJ : ClassId} {q : Nat → Nat} {w sp mo wl : Nat} {fk fv fp sk sv : Nat → Int32} {ats ens : Nat → Nat} {wn : Nat → Option Nat} {held spilled fed : Nat} {sealed : Bool} {runs size consumed : Nat} {current key value many sum least greatest : Int32} {sz oa : Nat} {f : Nat → Int64}
set_option maxHeartbeats 4000000 in
set_option maxRecDepth 100000 in
theorem c_EL_group_k {S : Type} {post : Int32 → S → Prop} {W1 : S → va_W} {p0 : Int32} (hM : ∀ sz, MetI l y_ES_group b_ES_group 2 (some .int) (rmF 0 0) D (tyL cI cZ cJ) [.ref (q 0), .int p0] (esW cI q w sp mo wl fk fv fp sk sv ats ens wn held spilled fed sealed runs size consumed current key value many sum least greatest) sz post W1) : MetX l y_EL_group b_EL_group 4 (some .int) [(0, 9, 12, 13)] { frames := 7, cells := 1, slots := 6, locals := 136 } D (tyL cI cZ cJ) [.ref (q 0), .int p0, .ref oa] ((oa, .inl (cJ, 1, .inr (.inl f))) :: esW cI q w sp mo wl fk fv fp sk sv ats ens wn held spilled fed sealed runs size consumed current key value many sum least greatest) sz (fun r (u : S × Int32) => r = 0 ∧ post u.2 u.1) (fun u => (oa, .inl (cJ, 1, .inr (.inl (vp_updL f 0 u.2.toInt64)))) :: W1 u.1) := by
  refine MetX.of (by decide) (Nat.le_of_ble_eq_true rfl) ?_
  intro p e s m below meth c A ls C htab hTA hA hw hl
  have hx := C.1.1
  have hb := C.1.2.1
  have hl : lv_has ls 4 [(0, .ref (q 0)), (1, .int p0), (2, .ref oa)] := hl
  refine lv_aload_n hx hb d_EL_group_0 rfl (lv_at hl 2 rfl) ?_
  refine lv_iconst (v := nI 0) hx hb d_EL_group_1 (by decide) ?_
  refine lv_aload_n hx hb d_EL_group_2 rfl (lv_at hl 0 rfl) ?_
  refine lv_iload_n hx hb d_EL_group_3 rfl (lv_at hl 1 rfl) ?_
  refine zr_calliF (As := [.int p0]) (rest := [.int (nI 0), .ref oa]) (wr := [(oa, .inl (cJ, 1, .inr (.inl f)))]) C (hM _) g_EL_ES_group h_ES_group ⟨Nat.le_of_ble_eq_true rfl, Nat.le_of_ble_eq_true rfl⟩ [1, 2, 3, 4, 5, 6, 7, 8, 9] [0] rfl rfl rfl rfl (by decide) rfl rfl hw hA hl.1 rfl (Nat.le_of_ble_eq_true rfl) d_EL_group_4 ⟨Nat.le_of_ble_eq_true rfl, Nat.le_of_ble_eq_true rfl⟩ (fun r1 u H locs hres hw => ?_)
  have hw : Wd D (tyL cI cZ cJ) A s H locs ((oa, .inl (cJ, 1, .inr (.inl f))) :: W1 u) := hw
  refine lv_i2l (v := r1.toInt64) hx hb d_EL_group_7 rfl ?_
  refine zr_lst C hw 0 2 rfl rfl (Nat.le_of_ble_eq_true rfl) (by decide) (W1 := (oa, .inl (cJ, 1, .inr (.inl (vp_updL f 0 r1.toInt64)))) :: W1 u) rfl d_EL_group_8 (fun H locs hw => ?_)
  refine lv_goto (tgt := 15) hx hb d_EL_group_9 (by decide) ?_
  refine lv_iconst (v := 0) hx hb d_EL_group_15 (by decide) ?_
  refine W.widen (k := 1) (n := 6) (by decide) (by decide) ?_
  exact zr_iret C (u, r1) ⟨rfl, hres⟩ hw d_EL_group_16
set_option maxHeartbeats 4000000 in
set_option maxRecDepth 100000 in
theorem c_EL_group_t (hfl : l.flags = pinnedFlags ++ [noTraceFlag]) {p0 : Int32} (hn : p0 < 0 ∨ 3 < p0) : MetX l y_EL_group b_EL_group 4 (some .int) [(0, 9, 12, 13)] { frames := 7, cells := 1, slots := 6, locals := 136 } D (tyL cI cZ cJ) [.ref (q 0), .int p0, .ref oa] ((oa, .inl (cJ, 1, .inr (.inl f))) :: esW cI q w sp mo wl fk fv fp sk sv ats ens wn held spilled fed sealed runs size consumed current key value many sum least greatest) sz (fun r (_ : Unit) => r = 1) (fun _ => (oa, .inl (cJ, 1, .inr (.inl f))) :: esW cI q w sp mo wl fk fv fp sk sv ats ens wn held spilled fed sealed runs size consumed current key value many sum least greatest) := by
  refine MetX.of (by decide) (Nat.le_of_ble_eq_true rfl) ?_
  intro p e s m below meth c A ls C htab hTA hA hw hl
  have hx := C.1.1
  have hb := C.1.2.1
  have hl : lv_has ls 4 [(0, .ref (q 0)), (1, .int p0), (2, .ref oa)] := hl
  refine lv_aload_n hx hb d_EL_group_0 rfl (lv_at hl 2 rfl) ?_
  refine lv_iconst (v := nI 0) hx hb d_EL_group_1 (by decide) ?_
  refine lv_aload_n hx hb d_EL_group_2 rfl (lv_at hl 0 rfl) ?_
  refine lv_iload_n hx hb d_EL_group_3 rfl (lv_at hl 1 rfl) ?_
  refine zr_callT (As := [.int p0]) (rest := [.int (nI 0), .ref oa]) C htab ⟨by decide, by decide⟩ (by decide) (by decide +kernel) (c_ES_group_t hfl hn) g_EL_ES_group h_ES_group ⟨Nat.le_of_ble_eq_true rfl, Nat.le_of_ble_eq_true rfl⟩ ⟨rfl, rfl⟩ hl.1 (va_recv hw.1 hw.2.1 (ci := 0) (q0 := 1) rfl rfl) (fun U hU hW => hTA.ext hW (fun q cell h => by rw [hU]; exact h)) rfl (Nat.le_of_ble_eq_true rfl) d_EL_group_4 ⟨Nat.le_of_ble_eq_true rfl, Nat.le_of_ble_eq_true rfl⟩ (fun x9 H1 hz1 ho1 => ?_)
  have hw := hw.grow hz1 ho1
  refine lv_astore_n (lv' := [(3, .ref x9), (0, .ref (q 0)), (1, .int p0), (2, .ref oa)]) hx hb d_EL_group_12 rfl hl (by decide) rfl (fun ls hl => ?_)
  refine lv_iconst (v := 1) hx hb d_EL_group_13 (by decide) ?_
  exact zr_iret C () rfl hw d_EL_group_14
set_option maxHeartbeats 4000000 in
set_option maxRecDepth 100000 in
theorem c_EL_count_k {S : Type} {post : Int32 → S → Prop} {W1 : S → va_W} {p0 : Int32} (hM : ∀ sz, MetI l y_ES_count b_ES_count 4 (some .int) (rmF 1 21) D (tyL cI cZ cJ) [.ref (q 0), .int p0] (esW cI q w sp mo wl fk fv fp sk sv ats ens wn held spilled fed sealed runs size consumed current key value many sum least greatest) sz post W1) : MetX l y_EL_count b_EL_count 4 (some .int) [(0, 9, 12, 13)] { frames := 7, cells := 1, slots := 6, locals := 136 } D (tyL cI cZ cJ) [.ref (q 0), .int p0, .ref oa] ((oa, .inl (cJ, 1, .inr (.inl f))) :: esW cI q w sp mo wl fk fv fp sk sv ats ens wn held spilled fed sealed runs size consumed current key value many sum least greatest) sz (fun r (u : S × Int32) => r = 0 ∧ post u.2 u.1) (fun u => (oa, .inl (cJ, 1, .inr (.inl (vp_updL f 0 u.2.toInt64)))) :: W1 u.1) := by
  refine MetX.of (by decide) (Nat.le_of_ble_eq_true rfl) ?_
  intro p e s m below meth c A ls C htab hTA hA hw hl
  have hx := C.1.1
  have hb := C.1.2.1
  have hl : lv_has ls 4 [(0, .ref (q 0)), (1, .int p0), (2, .ref oa)] := hl
  refine lv_aload_n hx hb d_EL_count_0 rfl (lv_at hl 2 rfl) ?_
  refine lv_iconst (v := nI 0) hx hb d_EL_count_1 (by decide) ?_
  refine lv_aload_n hx hb d_EL_count_2 rfl (lv_at hl 0 rfl) ?_
  refine lv_iload_n hx hb d_EL_count_3 rfl (lv_at hl 1 rfl) ?_
  refine zr_calliF (As := [.int p0]) (rest := [.int (nI 0), .ref oa]) (wr := [(oa, .inl (cJ, 1, .inr (.inl f)))]) C (hM _) g_EL_ES_count h_ES_count ⟨Nat.le_of_ble_eq_true rfl, Nat.le_of_ble_eq_true rfl⟩ [1, 2, 3, 4, 5, 6, 7, 8, 9] [0] rfl rfl rfl rfl (by decide) rfl rfl hw hA hl.1 rfl (Nat.le_of_ble_eq_true rfl) d_EL_count_4 ⟨Nat.le_of_ble_eq_true rfl, Nat.le_of_ble_eq_true rfl⟩ (fun r1 u H locs hres hw => ?_)
  have hw : Wd D (tyL cI cZ cJ) A s H locs ((oa, .inl (cJ, 1, .inr (.inl f))) :: W1 u) := hw
  refine lv_i2l (v := r1.toInt64) hx hb d_EL_count_7 rfl ?_
  refine zr_lst C hw 0 2 rfl rfl (Nat.le_of_ble_eq_true rfl) (by decide) (W1 := (oa, .inl (cJ, 1, .inr (.inl (vp_updL f 0 r1.toInt64)))) :: W1 u) rfl d_EL_count_8 (fun H locs hw => ?_)
  refine lv_goto (tgt := 15) hx hb d_EL_count_9 (by decide) ?_
  refine lv_iconst (v := 0) hx hb d_EL_count_15 (by decide) ?_
  refine W.widen (k := 1) (n := 6) (by decide) (by decide) ?_
  exact zr_iret C (u, r1) ⟨rfl, hres⟩ hw d_EL_count_16
set_option maxHeartbeats 4000000 in
set_option maxRecDepth 100000 in
theorem c_EL_count_t (hfl : l.flags = pinnedFlags ++ [noTraceFlag]) {p0 : Int32} (hn : p0 < 0 ∨ 3 < p0) : MetX l y_EL_count b_EL_count 4 (some .int) [(0, 9, 12, 13)] { frames := 7, cells := 1, slots := 6, locals := 136 } D (tyL cI cZ cJ) [.ref (q 0), .int p0, .ref oa] ((oa, .inl (cJ, 1, .inr (.inl f))) :: esW cI q w sp mo wl fk fv fp sk sv ats ens wn held spilled fed sealed runs size consumed current key value many sum least greatest) sz (fun r (_ : Unit) => r = 1) (fun _ => (oa, .inl (cJ, 1, .inr (.inl f))) :: esW cI q w sp mo wl fk fv fp sk sv ats ens wn held spilled fed sealed runs size consumed current key value many sum least greatest) := by
  refine MetX.of (by decide) (Nat.le_of_ble_eq_true rfl) ?_
  intro p e s m below meth c A ls C htab hTA hA hw hl
  have hx := C.1.1
  have hb := C.1.2.1
  have hl : lv_has ls 4 [(0, .ref (q 0)), (1, .int p0), (2, .ref oa)] := hl
  refine lv_aload_n hx hb d_EL_count_0 rfl (lv_at hl 2 rfl) ?_
  refine lv_iconst (v := nI 0) hx hb d_EL_count_1 (by decide) ?_
  refine lv_aload_n hx hb d_EL_count_2 rfl (lv_at hl 0 rfl) ?_
  refine lv_iload_n hx hb d_EL_count_3 rfl (lv_at hl 1 rfl) ?_
  refine zr_callT (As := [.int p0]) (rest := [.int (nI 0), .ref oa]) C htab ⟨by decide, by decide⟩ (by decide) (by decide +kernel) (c_ES_count_t hfl hn) g_EL_ES_count h_ES_count ⟨Nat.le_of_ble_eq_true rfl, Nat.le_of_ble_eq_true rfl⟩ ⟨rfl, rfl⟩ hl.1 (va_recv hw.1 hw.2.1 (ci := 0) (q0 := 1) rfl rfl) (fun U hU hW => hTA.ext hW (fun q cell h => by rw [hU]; exact h)) rfl (Nat.le_of_ble_eq_true rfl) d_EL_count_4 ⟨Nat.le_of_ble_eq_true rfl, Nat.le_of_ble_eq_true rfl⟩ (fun x9 H1 hz1 ho1 => ?_)
  have hw := hw.grow hz1 ho1
  refine lv_astore_n (lv' := [(3, .ref x9), (0, .ref (q 0)), (1, .int p0), (2, .ref oa)]) hx hb d_EL_count_12 rfl hl (by decide) rfl (fun ls hl => ?_)
  refine lv_iconst (v := 1) hx hb d_EL_count_13 (by decide) ?_
  exact zr_iret C () rfl hw d_EL_count_14
set_option maxHeartbeats 4000000 in
set_option maxRecDepth 100000 in
theorem c_EL_feedMany_k {S : Type} {post : Int32 → S → Prop} {W1 : S → va_W} {p0 p1 p2 p3 : Int32} (hM : ∀ sz, MetI l y_ES_feedMany b_ES_feedMany 6 (some .int) (rmF 5 111) D (tyL cI cZ cJ) [.ref (q 0), .int p0, .int p1, .int p2, .int p3] (esW cI q w sp mo wl fk fv fp sk sv ats ens wn held spilled fed sealed runs size consumed current key value many sum least greatest) sz post W1) : MetX l y_EL_feedMany b_EL_feedMany 7 (some .int) [(0, 14, 17, 13)] { frames := 7, cells := 1, slots := 6, locals := 136 } D (tyL cI cZ cJ) [.ref (q 0), .int p0, .int p1, .int p2, .int p3, .ref oa] ((oa, .inl (cJ, 1, .inr (.inl f))) :: esW cI q w sp mo wl fk fv fp sk sv ats ens wn held spilled fed sealed runs size consumed current key value many sum least greatest) sz (fun r (u : S × Int32) => r = 0 ∧ post u.2 u.1) (fun u => (oa, .inl (cJ, 1, .inr (.inl (vp_updL f 0 u.2.toInt64)))) :: W1 u.1) := by
  refine MetX.of (by decide) (Nat.le_of_ble_eq_true rfl) ?_
  intro p e s m below meth c A ls C htab hTA hA hw hl
  have hx := C.1.1
  have hb := C.1.2.1
  have hl : lv_has ls 7 [(0, .ref (q 0)), (1, .int p0), (2, .int p1), (3, .int p2), (4, .int p3), (5, .ref oa)] := hl
  refine lv_aload hx hb d_EL_feedMany_0 (lv_at hl 5 rfl) ?_
  refine lv_iconst (v := nI 0) hx hb d_EL_feedMany_2 (by decide) ?_
  refine lv_aload_n hx hb d_EL_feedMany_3 rfl (lv_at hl 0 rfl) ?_
  refine lv_iload_n hx hb d_EL_feedMany_4 rfl (lv_at hl 1 rfl) ?_
  refine lv_iload_n hx hb d_EL_feedMany_5 rfl (lv_at hl 2 rfl) ?_
  refine lv_iload_n hx hb d_EL_feedMany_6 rfl (lv_at hl 3 rfl) ?_
  refine lv_iload hx hb d_EL_feedMany_7 (lv_at hl 4 rfl) ?_
  refine zr_calliF (As := [.int p0, .int p1, .int p2, .int p3]) (rest := [.int (nI 0), .ref oa]) (wr := [(oa, .inl (cJ, 1, .inr (.inl f)))]) C (hM _) g_EL_ES_feedMany h_ES_feedMany ⟨Nat.le_of_ble_eq_true rfl, Nat.le_of_ble_eq_true rfl⟩ [1, 2, 3, 4, 5, 6, 7, 8, 9] [0] rfl rfl rfl rfl (by decide) rfl rfl hw hA hl.1 rfl (Nat.le_of_ble_eq_true rfl) d_EL_feedMany_9 ⟨Nat.le_of_ble_eq_true rfl, Nat.le_of_ble_eq_true rfl⟩ (fun r1 u H locs hres hw => ?_)
  have hw : Wd D (tyL cI cZ cJ) A s H locs ((oa, .inl (cJ, 1, .inr (.inl f))) :: W1 u) := hw
  refine lv_i2l (v := r1.toInt64) hx hb d_EL_feedMany_12 rfl ?_
  refine zr_lst C hw 0 2 rfl rfl (Nat.le_of_ble_eq_true rfl) (by decide) (W1 := (oa, .inl (cJ, 1, .inr (.inl (vp_updL f 0 r1.toInt64)))) :: W1 u) rfl d_EL_feedMany_13 (fun H locs hw => ?_)
  refine lv_goto (tgt := 21) hx hb d_EL_feedMany_14 (by decide) ?_
  refine lv_iconst (v := 0) hx hb d_EL_feedMany_21 (by decide) ?_
  refine W.widen (k := 1) (n := 6) (by decide) (by decide) ?_
  exact zr_iret C (u, r1) ⟨rfl, hres⟩ hw d_EL_feedMany_22
set_option maxHeartbeats 4000000 in
set_option maxRecDepth 100000 in
theorem c_EL_feedMany_t (hfl : l.flags = pinnedFlags ++ [noTraceFlag]) {p0 p1 p2 p3 : Int32} (hn : p3 < 0 ∨ 200 < p3) : MetX l y_EL_feedMany b_EL_feedMany 7 (some .int) [(0, 14, 17, 13)] { frames := 7, cells := 1, slots := 6, locals := 136 } D (tyL cI cZ cJ) [.ref (q 0), .int p0, .int p1, .int p2, .int p3, .ref oa] ((oa, .inl (cJ, 1, .inr (.inl f))) :: esW cI q w sp mo wl fk fv fp sk sv ats ens wn held spilled fed sealed runs size consumed current key value many sum least greatest) sz (fun r (_ : Unit) => r = 1) (fun _ => (oa, .inl (cJ, 1, .inr (.inl f))) :: esW cI q w sp mo wl fk fv fp sk sv ats ens wn held spilled fed sealed runs size consumed current key value many sum least greatest) := by
  refine MetX.of (by decide) (Nat.le_of_ble_eq_true rfl) ?_
  intro p e s m below meth c A ls C htab hTA hA hw hl
  have hx := C.1.1
  have hb := C.1.2.1
  have hl : lv_has ls 7 [(0, .ref (q 0)), (1, .int p0), (2, .int p1), (3, .int p2), (4, .int p3), (5, .ref oa)] := hl
  refine lv_aload hx hb d_EL_feedMany_0 (lv_at hl 5 rfl) ?_
  refine lv_iconst (v := nI 0) hx hb d_EL_feedMany_2 (by decide) ?_
  refine lv_aload_n hx hb d_EL_feedMany_3 rfl (lv_at hl 0 rfl) ?_
  refine lv_iload_n hx hb d_EL_feedMany_4 rfl (lv_at hl 1 rfl) ?_
  refine lv_iload_n hx hb d_EL_feedMany_5 rfl (lv_at hl 2 rfl) ?_
  refine lv_iload_n hx hb d_EL_feedMany_6 rfl (lv_at hl 3 rfl) ?_
  refine lv_iload hx hb d_EL_feedMany_7 (lv_at hl 4 rfl) ?_
  refine zr_callT (As := [.int p0, .int p1, .int p2, .int p3]) (rest := [.int (nI 0), .ref oa]) C htab ⟨by decide, by decide⟩ (by decide) (by decide +kernel) (c_ES_feedMany_t hfl hn) g_EL_ES_feedMany h_ES_feedMany ⟨Nat.le_of_ble_eq_true rfl, Nat.le_of_ble_eq_true rfl⟩ ⟨rfl, rfl⟩ hl.1 (va_recv hw.1 hw.2.1 (ci := 0) (q0 := 1) rfl rfl) (fun U hU hW => hTA.ext hW (fun q cell h => by rw [hU]; exact h)) rfl (Nat.le_of_ble_eq_true rfl) d_EL_feedMany_9 ⟨Nat.le_of_ble_eq_true rfl, Nat.le_of_ble_eq_true rfl⟩ (fun x9 H1 hz1 ho1 => ?_)
  have hw := hw.grow hz1 ho1
  refine lv_astore (lv' := [(6, .ref x9), (0, .ref (q 0)), (1, .int p0), (2, .int p1), (3, .int p2), (4, .int p3), (5, .ref oa)]) hx hb d_EL_feedMany_17 hl (by decide) rfl (fun ls hl => ?_)
  refine lv_iconst (v := 1) hx hb d_EL_feedMany_19 (by decide) ?_
  exact zr_iret C () rfl hw d_EL_feedMany_20
end EL1
end
section
/-! ===== the law's cases (walks printed by gen/lw1.py) ===== -/
section ZF
variable {p : Program} {l : Launch} {e : Env} {R : Room} {s : State} {m : MethodId} {args : Array Value} {below : List Frame} {meth : Method} {c : Code} {H : Heap} {locs : List Loc} {cells slots : Nat} {Q : State → Prop}
variable {cc : ByteArray} {pc nL : Nat} {rt : Option FieldType} {ls : Array Slot} {rest : List Value} {D : va_G} {A : Nat → Prop} {tys : List (ClassId × FieldType)} {W0 : va_W} {own : String}
/-- lcmp of two equal longs -/
theorem zr_lcmp0 (hexec : p.tables.exec = Jvm.exec) (hb : c.code = cc) {x : Int64} (hdg : decode cc pc = .ok (.lcmp, 1))
    (k : W p l e R s m args below meth c H locs cells slots Q (F0 m (pc + 1) ls (.int 0 :: rest))) : W p l e R s m args below meth c H locs cells slots Q (F0 m pc ls (.long x :: .long x :: rest)) := by
  intro T hT X
  obtain ⟨t, a, b⟩ := k T hT X
  refine ⟨t, ?_, b⟩
  have h0 : ¬ x > x := Int64.lt_irrefl
  jvm_step X.here [X.here.top, hexec, hb, hdg]
  first | exact a | (simp only [h0, if_false, if_true]; exact a) | (simp [h0] at a ⊢; exact a)
theorem zr_calliF0 {S : Type} {post : Int32 → S → Prop} {W1 : S → va_W} {y : MethodName} {b : ByteArray} {n : Nat} {rt' : Option FieldType} {rm : Room} {a : Nat} {As st0 : List Value} {Wc wr : va_W} (C : Cx p m meth c cc nL rt s args own) (hM : MetI l y b n rt' rm D tys (.ref a :: As) Wc H.size post W1) {idx ci N : Nat} {T : u_T} {fs : List Value} (hg : GoodIn tb (wsV own idx y.cls y (wd y b n rt')))
    (hd : y.cls ≠ "java/lang/invoke/MethodHandle" ∧ y.cls ≠ "java/lang/invoke/VarHandle" ∧ (parseMethodDescriptor y.desc).map (fun d => d.parameters.length) = some As.length) (hrm : rm.frames + 1 ≤ R.frames ∧ 8 + (n + 11) + rm.locals ≤ R.locals)
    (isC isR : List Nat) (hC : isC.map (fun i => W0[i]?) = Wc.map some) (hR : isR.map (fun i => W0[i]?) = wr.map some) (hnC : va_nd isC = true) (hn : va_nd isR = true) (hdis : ∀ i ∈ isR, i ∉ isC) (hrec : Wc[0]? = some (a, .inr (ci, fs))) (hcl : classes[ci]? = some (y.cls, T, N)) (hw : Wd D tys A s H locs W0) (hA : ∀ q : Nat, s.heap.size ≤ q → A q) (hls : ls.size = nL) (hst : st0 = As.reverse ++ .ref a :: rest) (hro : (rest.map fun v => v.category).sum ≤ 8) (hdg : decode cc pc = .ok (.invokevirtual idx, 3)) (h0 : rm.cells = 0 ∧ rm.slots = 0) (hf : cells ≤ R.cells ∧ slots ≤ R.slots)
    (kk : ∀ (r : Int32) (u : S) (H : Heap) (locs : List Loc), post r u → Wd D tys A s H locs (wr ++ W1 u) → W p l e R s m args below meth c H locs cells slots Q (F0 m (pc + 3) ls (.int r :: rest))) : W p l e R s m args below meth c H locs cells slots Q (F0 m pc ls st0) :=
  zr_calliF C hM hg hd hrm isC isR hC hR hnC hn hdis hrec hcl hw hA hls hst hro hdg (by rw [h0.1, h0.2]; exact hf) (fun r u H locs h1 h2 => by rw [h0.1, h0.2]; exact kk r u H locs h1 h2)
theorem zr_callvF0 {S : Type} {post : S → Prop} {W1 : S → va_W} {y : MethodName} {b : ByteArray} {n : Nat} {rm : Room} {a : Nat} {As st0 : List Value} {Wc wr : va_W} (C : Cx p m meth c cc nL rt s args own) (hM : MetV l y b n rm D tys (.ref a :: As) Wc H.size post W1) {idx ci N : Nat} {T : u_T} {fs : List Value} (hg : GoodIn tb (wsV own idx y.cls y (wd y b n none)))
    (hd : y.cls ≠ "java/lang/invoke/MethodHandle" ∧ y.cls ≠ "java/lang/invoke/VarHandle" ∧ (parseMethodDescriptor y.desc).map (fun d => d.parameters.length) = some As.length) (hrm : rm.frames + 1 ≤ R.frames ∧ 8 + (n + 11) + rm.locals ≤ R.locals)
    (isC isR : List Nat) (hC : isC.map (fun i => W0[i]?) = Wc.map some) (hR : isR.map (fun i => W0[i]?) = wr.map some) (hnC : va_nd isC = true) (hn : va_nd isR = true) (hdis : ∀ i ∈ isR, i ∉ isC) (hrec : Wc[0]? = some (a, .inr (ci, fs))) (hcl : classes[ci]? = some (y.cls, T, N)) (hw : Wd D tys A s H locs W0) (hA : ∀ q : Nat, s.heap.size ≤ q → A q) (hls : ls.size = nL) (hst : st0 = As.reverse ++ .ref a :: rest) (hro : (rest.map fun v => v.category).sum ≤ 8) (hdg : decode cc pc = .ok (.invokevirtual idx, 3)) (h0 : rm.cells = 0 ∧ rm.slots = 0) (hf : cells ≤ R.cells ∧ slots ≤ R.slots)
    (kk : ∀ (u : S) (H : Heap) (locs : List Loc), post u → Wd D tys A s H locs (wr ++ W1 u) → W p l e R s m args below meth c H locs cells slots Q (F0 m (pc + 3) ls rest)) : W p l e R s m args below meth c H locs cells slots Q (F0 m pc ls st0) :=
  zr_callvF C hM hg hd hrm isC isR hC hR hnC hn hdis hrec hcl hw hA hls hst hro hdg (by rw [h0.1, h0.2]; exact hf) (fun u H locs h1 h2 => by rw [h0.1, h0.2]; exact kk u H locs h1 h2)
end ZF
theorem h_ES_reset : y_ES_reset.cls ≠ "java/lang/invoke/MethodHandle" ∧ y_ES_reset.cls ≠ "java/lang/invoke/VarHandle" ∧ (parseMethodDescriptor y_ES_reset.desc).map (fun d => d.parameters.length) = some 0 := by decide +kernel
theorem g_EL_ES_reset : GoodIn tb (wsV R_law 34 y_ES_reset.cls y_ES_reset (wd y_ES_reset b_ES_reset 1 none)) := gd_V (by decide +kernel)
theorem g_EL_ES_feed : GoodIn tb (wsV R_law 38 y_ES_feed.cls y_ES_feed (wd y_ES_feed b_ES_feed 3 (some .int))) := gd_V (by decide +kernel)
theorem h_ES_seal : y_ES_seal.cls ≠ "java/lang/invoke/MethodHandle" ∧ y_ES_seal.cls ≠ "java/lang/invoke/VarHandle" ∧ (parseMethodDescriptor y_ES_seal.desc).map (fun d => d.parameters.length) = some 0 := by decide +kernel
theorem g_EL_ES_seal : GoodIn tb (wsV R_law 51 y_ES_seal.cls y_ES_seal (wd y_ES_seal b_ES_seal 2 (some .int))) := gd_V (by decide +kernel)
theorem h_ES_nextRow : y_ES_nextRow.cls ≠ "java/lang/invoke/MethodHandle" ∧ y_ES_nextRow.cls ≠ "java/lang/invoke/VarHandle" ∧ (parseMethodDescriptor y_ES_nextRow.desc).map (fun d => d.parameters.length) = some 0 := by decide +kernel
theorem g_EL_ES_nextRow : GoodIn tb (wsV R_law 55 y_ES_nextRow.cls y_ES_nextRow (wd y_ES_nextRow b_ES_nextRow 1 (some .int))) := gd_V (by decide +kernel)
theorem h_ES_nextGroup : y_ES_nextGroup.cls ≠ "java/lang/invoke/MethodHandle" ∧ y_ES_nextGroup.cls ≠ "java/lang/invoke/VarHandle" ∧ (parseMethodDescriptor y_ES_nextGroup.desc).map (fun d => d.parameters.length) = some 0 := by decide +kernel
theorem g_EL_ES_nextGroup : GoodIn tb (wsV R_law 59 y_ES_nextGroup.cls y_ES_nextGroup (wd y_ES_nextGroup b_ES_nextGroup 2 (some .int))) := gd_V (by decide +kernel)
theorem h_ES_skipTo : y_ES_skipTo.cls ≠ "java/lang/invoke/MethodHandle" ∧ y_ES_skipTo.cls ≠ "java/lang/invoke/VarHandle" ∧ (parseMethodDescriptor y_ES_skipTo.desc).map (fun d => d.parameters.length) = some 1 := by decide +kernel
theorem g_EL_ES_skipTo : GoodIn tb (wsV R_law 63 y_ES_skipTo.cls y_ES_skipTo (wd y_ES_skipTo b_ES_skipTo 3 (some .int))) := gd_V (by decide +kernel)
theorem h_ES_key : y_ES_key.cls ≠ "java/lang/invoke/MethodHandle" ∧ y_ES_key.cls ≠ "java/lang/invoke/VarHandle" ∧ (parseMethodDescriptor y_ES_key.desc).map (fun d => d.parameters.length) = some 0 := by decide +kernel
theorem g_EL_ES_key : GoodIn tb (wsV R_law 67 y_ES_key.cls y_ES_key (wd y_ES_key b_ES_key 1 (some .int))) := gd_V (by decide +kernel)
theorem h_ES_value : y_ES_value.cls ≠ "java/lang/invoke/MethodHandle" ∧ y_ES_value.cls ≠ "java/lang/invoke/VarHandle" ∧ (parseMethodDescriptor y_ES_value.desc).map (fun d => d.parameters.length) = some 0 := by decide +kernel
theorem g_EL_ES_value : GoodIn tb (wsV R_law 71 y_ES_value.cls y_ES_value (wd y_ES_value b_ES_value 1 (some .int))) := gd_V (by decide +kernel)
theorem h_EM_reset : y_EM_reset.cls ≠ "java/lang/invoke/MethodHandle" ∧ y_EM_reset.cls ≠ "java/lang/invoke/VarHandle" ∧ (parseMethodDescriptor y_EM_reset.desc).map (fun d => d.parameters.length) = some 0 := by decide +kernel
theorem g_EL_EM_reset : GoodIn tb (wsV R_law 37 y_EM_reset.cls y_EM_reset (wd y_EM_reset b_EM_reset 1 none)) := gd_V (by decide +kernel)
theorem h_EM_feed : y_EM_feed.cls ≠ "java/lang/invoke/MethodHandle" ∧ y_EM_feed.cls ≠ "java/lang/invoke/VarHandle" ∧ (parseMethodDescriptor y_EM_feed.desc).map (fun d => d.parameters.length) = some 2 := by decide +kernel
theorem g_EL_EM_feed : GoodIn tb (wsV R_law 42 y_EM_feed.cls y_EM_feed (wd y_EM_feed b_EM_feed 3 (some .int))) := gd_V (by decide +kernel)
theorem h_EM_feedMany : y_EM_feedMany.cls ≠ "java/lang/invoke/MethodHandle" ∧ y_EM_feedMany.cls ≠ "java/lang/invoke/VarHandle" ∧ (parseMethodDescriptor y_EM_feedMany.desc).map (fun d => d.parameters.length) = some 4 := by decide +kernel
theorem g_EL_EM_feedMany : GoodIn tb (wsV R_law 46 y_EM_feedMany.cls y_EM_feedMany (wd y_EM_feedMany b_EM_feedMany 6 (some .int))) := gd_V (by decide +kernel)
theorem h_EM_thrown : y_EM_thrown.cls ≠ "java/lang/invoke/MethodHandle" ∧ y_EM_thrown.cls ≠ "java/lang/invoke/VarHandle" ∧ (parseMethodDescriptor y_EM_thrown.desc).map (fun d => d.parameters.length) = some 0 := by decide +kernel
theorem g_EL_EM_thrown : GoodIn tb (wsV R_law 47 y_EM_thrown.cls y_EM_thrown (wd y_EM_thrown b_EM_thrown 1 (some .int))) := gd_V (by decide +kernel)
theorem h_EM_seal : y_EM_seal.cls ≠ "java/lang/invoke/MethodHandle" ∧ y_EM_seal.cls ≠ "java/lang/invoke/VarHandle" ∧ (parseMethodDescriptor y_EM_seal.desc).map (fun d => d.parameters.length) = some 0 := by decide +kernel
theorem g_EL_EM_seal : GoodIn tb (wsV R_law 54 y_EM_seal.cls y_EM_seal (wd y_EM_seal b_EM_seal 3 (some .int))) := gd_V (by decide +kernel)
theorem h_EM_nextRow : y_EM_nextRow.cls ≠ "java/lang/invoke/MethodHandle" ∧ y_EM_nextRow.cls ≠ "java/lang/invoke/VarHandle" ∧ (parseMethodDescriptor y_EM_nextRow.desc).map (fun d => d.parameters.length) = some 0 := by decide +kernel
theorem g_EL_EM_nextRow : GoodIn tb (wsV R_law 58 y_EM_nextRow.cls y_EM_nextRow (wd y_EM_nextRow b_EM_nextRow 1 (some .int))) := gd_V (by decide +kernel)
theorem h_EM_nextGroup : y_EM_nextGroup.cls ≠ "java/lang/invoke/MethodHandle" ∧ y_EM_nextGroup.cls ≠ "java/lang/invoke/VarHandle" ∧ (parseMethodDescriptor y_EM_nextGroup.desc).map (fun d => d.parameters.length) = some 0 := by decide +kernel
theorem g_EL_EM_nextGroup : GoodIn tb (wsV R_law 62 y_EM_nextGroup.cls y_EM_nextGroup (wd y_EM_nextGroup b_EM_nextGroup 2 (some .int))) := gd_V (by decide +kernel)
theorem h_EM_skipTo : y_EM_skipTo.cls ≠ "java/lang/invoke/MethodHandle" ∧ y_EM_skipTo.cls ≠ "java/lang/invoke/VarHandle" ∧ (parseMethodDescriptor y_EM_skipTo.desc).map (fun d => d.parameters.length) = some 1 := by decide +kernel
theorem g_EL_EM_skipTo : GoodIn tb (wsV R_law 66 y_EM_skipTo.cls y_EM_skipTo (wd y_EM_skipTo b_EM_skipTo 3 (some .int))) := gd_V (by decide +kernel)
theorem h_EM_key : y_EM_key.cls ≠ "java/lang/invoke/MethodHandle" ∧ y_EM_key.cls ≠ "java/lang/invoke/VarHandle" ∧ (parseMethodDescriptor y_EM_key.desc).map (fun d => d.parameters.length) = some 0 := by decide +kernel
theorem g_EL_EM_key : GoodIn tb (wsV R_law 70 y_EM_key.cls y_EM_key (wd y_EM_key b_EM_key 1 (some .int))) := gd_V (by decide +kernel)
theorem h_EM_value : y_EM_value.cls ≠ "java/lang/invoke/MethodHandle" ∧ y_EM_value.cls ≠ "java/lang/invoke/VarHandle" ∧ (parseMethodDescriptor y_EM_value.desc).map (fun d => d.parameters.length) = some 0 := by decide +kernel
theorem g_EL_EM_value : GoodIn tb (wsV R_law 74 y_EM_value.cls y_EM_value (wd y_EM_value b_EM_value 1 (some .int))) := gd_V (by decide +kernel)
theorem h_EM_group : y_EM_group.cls ≠ "java/lang/invoke/MethodHandle" ∧ y_EM_group.cls ≠ "java/lang/invoke/VarHandle" ∧ (parseMethodDescriptor y_EM_group.desc).map (fun d => d.parameters.length) = some 1 := by decide +kernel
theorem g_EL_EM_group : GoodIn tb (wsV R_law 78 y_EM_group.cls y_EM_group (wd y_EM_group b_EM_group 2 (some .int))) := gd_V (by decide +kernel)
theorem h_EM_count : y_EM_count.cls ≠ "java/lang/invoke/MethodHandle" ∧ y_EM_count.cls ≠ "java/lang/invoke/VarHandle" ∧ (parseMethodDescriptor y_EM_count.desc).map (fun d => d.parameters.length) = some 1 := by decide +kernel
theorem g_EL_EM_count : GoodIn tb (wsV R_law 81 y_EM_count.cls y_EM_count (wd y_EM_count b_EM_count 2 (some .int))) := gd_V (by decide +kernel)
theorem x_EL_feedMany : ∀ w ∈ ([.methodLink R_law 43 y_EL_feedMany, .static y_EL_feedMany, .initialized y_EL_feedMany.cls, .codeWith y_EL_feedMany b_EL_feedMany 7 (some .int) [(0, 14, 17, 13)]] : List Cond), w ∈ tb := by decide +kernel
theorem h_EL_feedMany : y_EL_feedMany.cls ≠ "java/lang/invoke/MethodHandle" ∧ y_EL_feedMany.cls ≠ "java/lang/invoke/VarHandle" ∧ (parseMethodDescriptor y_EL_feedMany.desc).map (fun d => d.parameters.length) = some 6 := by decide +kernel
theorem x_EL_group : ∀ w ∈ ([.methodLink R_law 75 y_EL_group, .static y_EL_group, .initialized y_EL_group.cls, .codeWith y_EL_group b_EL_group 4 (some .int) [(0, 9, 12, 13)]] : List Cond), w ∈ tb := by decide +kernel
theorem h_EL_group : y_EL_group.cls ≠ "java/lang/invoke/MethodHandle" ∧ y_EL_group.cls ≠ "java/lang/invoke/VarHandle" ∧ (parseMethodDescriptor y_EL_group.desc).map (fun d => d.parameters.length) = some 3 := by decide +kernel
theorem x_EL_count : ∀ w ∈ ([.methodLink R_law 79 y_EL_count, .static y_EL_count, .initialized y_EL_count.cls, .codeWith y_EL_count b_EL_count 4 (some .int) [(0, 9, 12, 13)]] : List Cond), w ∈ tb := by decide +kernel
theorem h_EL_count : y_EL_count.cls ≠ "java/lang/invoke/MethodHandle" ∧ y_EL_count.cls ≠ "java/lang/invoke/VarHandle" ∧ (parseMethodDescriptor y_EL_count.desc).map (fun d => d.parameters.length) = some 3 := by decide +kernel
abbrev Aw (s : State) : Nat → Prop := fun q => s.heap.size ≤ q
/-- what stands throughout the law -/
def LE (p : Program) (l : Launch) (s : State) (m : MethodId) (meth : Method) (c : Code) (b L : Nat) (xs : Nat → Int32) : Prop := Cx p m meth c code 7 ret s #[Value.ref b] R_law ∧ va_X b L xs s s.heap ∧ b < s.heap.size ∧ TA s ∧ L ≤ 2562 ∧ l.flags = pinnedFlags ++ [noTraceFlag]
/-- the law's world at the loop's head: both objects hold the same abstract state -/
abbrev LW (D : va_G) (cI cZ cJ : ClassId) (s : State) (qe qm : Nat → Nat) (oa w S wl : Nat) (H : Heap) (locs : List Loc) : Prop := ∃ (f : Nat → Int64) (u : ESt) (K V : Nat → Int32) (ord : Nat → Nat) (lf : Nat → Bool) (thrown : Int32) (fed r : Nat) (sealed : Bool) (cn : Nat) (current key value many sum least greatest : Int32), Wd D (tyL cI cZ cJ) (Aw s) s H locs ((oa, .inl (cJ, 1, .inr (.inl f))) :: (esU cI qe w (S * w) (S + 1) wl u fed sealed cn current key value many sum least greatest ++ emW cI cZ qm K V ord lf thrown w (S * w + w) fed r (fed - r * w) sealed cn current key value many sum least greatest)) ∧ RepE w S wl K V fed r sealed cn u ∧ AI w S fed r ∧ (sealed = true → ∀ i, i < fed → ord i = ordf K fed i)
section LAW
variable {p : Program} {l : Launch} {e : Env} {s : State} {m : MethodId} {below : List Frame} {meth : Method} {c : Code} {b L : Nat} {xs : Nat → Int32} {D : va_G} {cI cZ cJ : ClassId} {qe qm : Nat → Nat} {oa w S wl : Nat} {ls : Array Slot} {i : Nat} {H : Heap} {locs : List Loc} {cells slots : Nat} {Q : State → Prop}
set_option maxHeartbeats 4000000 in
set_option maxRecDepth 100000 in
theorem law_reset (E : LE p l s m meth c b L xs) (hG : Geo w S wl) (hl : lv_has ls 7 [(4, .int (nI i)), (0, .ref b), (1, .ref (qe 0)), (2, .ref (qm 0)), (3, .ref oa)]) (hi : i + 5 ≤ L) (hcs : cells + 1 ≤ 601024 ∧ slots + 6 ≤ 7292999) (hW : LW D cI cZ cJ s qe qm oa w S wl H locs) (kk : ∀ (ls : Array Slot) (H : Heap) (locs : List Loc), lv_has ls 7 [(4, .int (nI i)), (0, .ref b), (1, .ref (qe 0)), (2, .ref (qm 0)), (3, .ref oa)] → LW D cI cZ cJ s qe qm oa w S wl H locs → W p l e room_1 s m #[Value.ref b] below meth c H locs (cells + 1) (slots + 6) Q (F0 m 458 ls [])) : W p l e room_1 s m #[Value.ref b] below meth c H locs cells slots Q (F0 m 116 ls []) := by
  obtain ⟨C, hX, hbl, hTA, hL, hfl⟩ := E
  have hx := C.1.1
  have hb := C.1.2.1
  have hA : ∀ q : Nat, s.heap.size ≤ q → Aw s q := fun _ h => h
  have hbA : ¬ Aw s b := Nat.not_le.mpr hbl
  have hf0 : cells ≤ room_1.cells ∧ slots ≤ room_1.slots := ⟨by show cells ≤ 601024; omega, by show slots ≤ 7292999; omega⟩
  obtain ⟨f, ⟨fk, fv, fp, sk, sv, ats, ens, wn, held, spilled, runs, size⟩, K, V, ord, lf, thrown, fed, r, sealed, cn, current, key, value, many, sum, least, greatest, hw, hrep, hai, hord⟩ := hW
  have hw : Wd D (tyL cI cZ cJ) (Aw s) s H locs ((oa, .inl (cJ, 1, .inr (.inl f))) :: (esW cI qe w (S * w) (S + 1) wl fk fv fp sk sv ats ens wn held spilled fed sealed runs size cn current key value many sum least greatest ++ emW cI cZ qm K V ord lf thrown w (S * w + w) fed r (fed - r * w) sealed cn current key value many sum least greatest)) := hw
  refine lv_aload_n hx hb d_law_116 rfl (lv_at hl 2 rfl) ?_
  refine zr_callvF0 (As := []) (rest := []) (wr := (oa, .inl (cJ, 1, .inr (.inl f))) :: emW cI cZ qm K V ord lf thrown w (S * w + w) fed r (fed - r * w) sealed cn current key value many sum least greatest) C c_ES_reset g_EL_ES_reset h_ES_reset ⟨Nat.le_of_ble_eq_true rfl, Nat.le_of_ble_eq_true rfl⟩ [1, 2, 3, 4, 5, 6, 7, 8, 9] [0, 10, 11, 12, 13, 14] rfl rfl rfl rfl (by decide) rfl rfl hw hA hl.1 rfl (Nat.le_of_ble_eq_true rfl) d_law_117 ⟨rfl, rfl⟩ hf0 (fun u1 H locs hr1 hw => ?_)
  have hw : Wd D (tyL cI cZ cJ) (Aw s) s H locs ((oa, .inl (cJ, 1, .inr (.inl f))) :: (esW cI qe w (S * w) (S + 1) wl fk fv fp sk sv ats ens wn 0 0 0 false 0 size 0 0 key value many sum least greatest ++ emW cI cZ qm K V ord lf thrown w (S * w + w) fed r (fed - r * w) sealed cn current key value many sum least greatest)) := hw.sub [0, 6, 7, 8, 9, 10, 11, 12, 13, 14, 1, 2, 3, 4, 5] rfl rfl rfl
  refine lv_aload_n hx hb d_law_120 rfl (lv_at hl 3 rfl) ?_
  refine zr_callvF0 (As := []) (rest := []) (wr := (oa, .inl (cJ, 1, .inr (.inl f))) :: esW cI qe w (S * w) (S + 1) wl fk fv fp sk sv ats ens wn 0 0 0 false 0 size 0 0 key value many sum least greatest) C c_EM_reset g_EL_EM_reset h_EM_reset ⟨Nat.le_of_ble_eq_true rfl, Nat.le_of_ble_eq_true rfl⟩ [10, 11, 12, 13, 14] [0, 1, 2, 3, 4, 5, 6, 7, 8, 9] rfl rfl rfl rfl (by decide) rfl rfl hw hA hl.1 rfl (Nat.le_of_ble_eq_true rfl) d_law_121 ⟨rfl, rfl⟩ hf0 (fun u2 H locs hr2 hw => ?_)
  have hw : Wd D (tyL cI cZ cJ) (Aw s) s H locs ((oa, .inl (cJ, 1, .inr (.inl f))) :: (esW cI qe w (S * w) (S + 1) wl fk fv fp sk sv ats ens wn 0 0 0 false 0 size 0 0 key value many sum least greatest ++ emW cI cZ qm K V ord lf 0 w (S * w + w) 0 0 0 false 0 0 key value many sum least greatest)) := hw
  refine lv_goto (tgt := 458) hx hb d_law_124 (by decide) ?_
  have hw : Wd D (tyL cI cZ cJ) (Aw s) s H locs ((oa, .inl (cJ, 1, .inr (.inl f))) :: (esW cI qe w (S * w) (S + 1) wl fk fv fp sk sv ats ens wn 0 0 0 false 0 size 0 0 key value many sum least greatest ++ emW cI cZ qm K V ord lf 0 w (S * w + w) 0 0 (0 - 0 * w) false 0 0 key value many sum least greatest)) := by rw [Nat.zero_sub]; exact hw
  refine W.widen (k := cells + 1) (n := slots + 6) (Nat.le_succ _) (Nat.le_add_right _ _) ?_
  exact kk ls H locs hl ⟨f, (fk, fv, fp, sk, sv, ats, ens, wn, 0, 0, 0, size), K, V, ord, lf, 0, 0, 0, false, 0, 0, key, value, many, sum, least, greatest, hw, (Or.inl ⟨rfl, rfl, rfl, RepU.empty _ _ _ _ _ _ _ _ _ _ _⟩), ⟨by omega, by omega, by omega⟩, (fun h => by cases h)⟩
set_option maxHeartbeats 4000000 in
set_option maxRecDepth 100000 in
theorem law_key (E : LE p l s m meth c b L xs) (hG : Geo w S wl) (hl : lv_has ls 7 [(4, .int (nI i)), (0, .ref b), (1, .ref (qe 0)), (2, .ref (qm 0)), (3, .ref oa)]) (hi : i + 5 ≤ L) (hcs : cells + 1 ≤ 601024 ∧ slots + 6 ≤ 7292999) (hW : LW D cI cZ cJ s qe qm oa w S wl H locs) (kk : ∀ (ls : Array Slot) (H : Heap) (locs : List Loc), lv_has ls 7 [(4, .int (nI i)), (0, .ref b), (1, .ref (qe 0)), (2, .ref (qm 0)), (3, .ref oa)] → LW D cI cZ cJ s qe qm oa w S wl H locs → W p l e room_1 s m #[Value.ref b] below meth c H locs (cells + 1) (slots + 6) Q (F0 m 458 ls [])) : W p l e room_1 s m #[Value.ref b] below meth c H locs cells slots Q (F0 m 320 ls []) := by
  obtain ⟨C, hX, hbl, hTA, hL, hfl⟩ := E
  have hx := C.1.1
  have hb := C.1.2.1
  have hA : ∀ q : Nat, s.heap.size ≤ q → Aw s q := fun _ h => h
  have hbA : ¬ Aw s b := Nat.not_le.mpr hbl
  have hf0 : cells ≤ room_1.cells ∧ slots ≤ room_1.slots := ⟨by show cells ≤ 601024; omega, by show slots ≤ 7292999; omega⟩
  obtain ⟨f, ⟨fk, fv, fp, sk, sv, ats, ens, wn, held, spilled, runs, size⟩, K, V, ord, lf, thrown, fed, r, sealed, cn, current, key, value, many, sum, least, greatest, hw, hrep, hai, hord⟩ := hW
  have hw : Wd D (tyL cI cZ cJ) (Aw s) s H locs ((oa, .inl (cJ, 1, .inr (.inl f))) :: (esW cI qe w (S * w) (S + 1) wl fk fv fp sk sv ats ens wn held spilled fed sealed runs size cn current key value many sum least greatest ++ emW cI cZ qm K V ord lf thrown w (S * w + w) fed r (fed - r * w) sealed cn current key value many sum least greatest)) := hw
  refine lv_aload_n hx hb d_law_320 rfl (lv_at hl 2 rfl) ?_
  refine zr_calliF0 (As := []) (rest := []) (wr := (oa, .inl (cJ, 1, .inr (.inl f))) :: emW cI cZ qm K V ord lf thrown w (S * w + w) fed r (fed - r * w) sealed cn current key value many sum least greatest) C c_ES_key g_EL_ES_key h_ES_key ⟨Nat.le_of_ble_eq_true rfl, Nat.le_of_ble_eq_true rfl⟩ [1, 2, 3, 4, 5, 6, 7, 8, 9] [0, 10, 11, 12, 13, 14] rfl rfl rfl rfl (by decide) rfl rfl hw hA hl.1 rfl (Nat.le_of_ble_eq_true rfl) d_law_321 ⟨rfl, rfl⟩ hf0 (fun r1 u1 H locs hr1 hw => ?_)
  have hw : Wd D (tyL cI cZ cJ) (Aw s) s H locs ((oa, .inl (cJ, 1, .inr (.inl f))) :: (esW cI qe w (S * w) (S + 1) wl fk fv fp sk sv ats ens wn held spilled fed sealed runs size cn current key value many sum least greatest ++ emW cI cZ qm K V ord lf thrown w (S * w + w) fed r (fed - r * w) sealed cn current key value many sum least greatest)) := hw.sub [0, 6, 7, 8, 9, 10, 11, 12, 13, 14, 1, 2, 3, 4, 5] rfl rfl rfl
  refine lv_aload_n hx hb d_law_324 rfl (lv_at hl 3 rfl) ?_
  refine zr_calliF0 (As := []) (rest := [.int r1]) (wr := (oa, .inl (cJ, 1, .inr (.inl f))) :: esW cI qe w (S * w) (S + 1) wl fk fv fp sk sv ats ens wn held spilled fed sealed runs size cn current key value many sum least greatest) C c_EM_key g_EL_EM_key h_EM_key ⟨Nat.le_of_ble_eq_true rfl, Nat.le_of_ble_eq_true rfl⟩ [10, 11, 12, 13, 14] [0, 1, 2, 3, 4, 5, 6, 7, 8, 9] rfl rfl rfl rfl (by decide) rfl rfl hw hA hl.1 rfl (Nat.le_of_ble_eq_true rfl) d_law_325 ⟨rfl, rfl⟩ hf0 (fun r2 u2 H locs hr2 hw => ?_)
  have hw : Wd D (tyL cI cZ cJ) (Aw s) s H locs ((oa, .inl (cJ, 1, .inr (.inl f))) :: (esW cI qe w (S * w) (S + 1) wl fk fv fp sk sv ats ens wn held spilled fed sealed runs size cn current key value many sum least greatest ++ emW cI cZ qm K V ord lf 0 w (S * w + w) fed r (fed - r * w) sealed cn current key value many sum least greatest)) := hw
  refine lv_icmp_eq (tgt := 458) hx hb d_law_328 (by decide) (fun h328 => ?_) (fun h328 => ?_)
  · refine W.widen (k := cells + 1) (n := slots + 6) (Nat.le_succ _) (Nat.le_add_right _ _) ?_
    exact kk ls H locs hl ⟨f, (fk, fv, fp, sk, sv, ats, ens, wn, held, spilled, runs, size), K, V, ord, lf, 0, fed, r, sealed, cn, current, key, value, many, sum, least, greatest, hw, hrep, hai, hord⟩
  · exact absurd (hr1.trans hr2.symm) h328
set_option maxHeartbeats 4000000 in
set_option maxRecDepth 100000 in
theorem law_value (E : LE p l s m meth c b L xs) (hG : Geo w S wl) (hl : lv_has ls 7 [(4, .int (nI i)), (0, .ref b), (1, .ref (qe 0)), (2, .ref (qm 0)), (3, .ref oa)]) (hi : i + 5 ≤ L) (hcs : cells + 1 ≤ 601024 ∧ slots + 6 ≤ 7292999) (hW : LW D cI cZ cJ s qe qm oa w S wl H locs) (kk : ∀ (ls : Array Slot) (H : Heap) (locs : List Loc), lv_has ls 7 [(4, .int (nI i)), (0, .ref b), (1, .ref (qe 0)), (2, .ref (qm 0)), (3, .ref oa)] → LW D cI cZ cJ s qe qm oa w S wl H locs → W p l e room_1 s m #[Value.ref b] below meth c H locs (cells + 1) (slots + 6) Q (F0 m 458 ls [])) : W p l e room_1 s m #[Value.ref b] below meth c H locs cells slots Q (F0 m 333 ls []) := by
  obtain ⟨C, hX, hbl, hTA, hL, hfl⟩ := E
  have hx := C.1.1
  have hb := C.1.2.1
  have hA : ∀ q : Nat, s.heap.size ≤ q → Aw s q := fun _ h => h
  have hbA : ¬ Aw s b := Nat.not_le.mpr hbl
  have hf0 : cells ≤ room_1.cells ∧ slots ≤ room_1.slots := ⟨by show cells ≤ 601024; omega, by show slots ≤ 7292999; omega⟩
  obtain ⟨f, ⟨fk, fv, fp, sk, sv, ats, ens, wn, held, spilled, runs, size⟩, K, V, ord, lf, thrown, fed, r, sealed, cn, current, key, value, many, sum, least, greatest, hw, hrep, hai, hord⟩ := hW
  have hw : Wd D (tyL cI cZ cJ) (Aw s) s H locs ((oa, .inl (cJ, 1, .inr (.inl f))) :: (esW cI qe w (S * w) (S + 1) wl fk fv fp sk sv ats ens wn held spilled fed sealed runs size cn current key value many sum least greatest ++ emW cI cZ qm K V ord lf thrown w (S * w + w) fed r (fed - r * w) sealed cn current key value many sum least greatest)) := hw
  refine lv_aload_n hx hb d_law_333 rfl (lv_at hl 2 rfl) ?_
  refine zr_calliF0 (As := []) (rest := []) (wr := (oa, .inl (cJ, 1, .inr (.inl f))) :: emW cI cZ qm K V ord lf thrown w (S * w + w) fed r (fed - r * w) sealed cn current key value many sum least greatest) C c_ES_value g_EL_ES_value h_ES_value ⟨Nat.le_of_ble_eq_true rfl, Nat.le_of_ble_eq_true rfl⟩ [1, 2, 3, 4, 5, 6, 7, 8, 9] [0, 10, 11, 12, 13, 14] rfl rfl rfl rfl (by decide) rfl rfl hw hA hl.1 rfl (Nat.le_of_ble_eq_true rfl) d_law_334 ⟨rfl, rfl⟩ hf0 (fun r1 u1 H locs hr1 hw => ?_)
  have hw : Wd D (tyL cI cZ cJ) (Aw s) s H locs ((oa, .inl (cJ, 1, .inr (.inl f))) :: (esW cI qe w (S * w) (S + 1) wl fk fv fp sk sv ats ens wn held spilled fed sealed runs size cn current key value many sum least greatest ++ emW cI cZ qm K V ord lf thrown w (S * w + w) fed r (fed - r * w) sealed cn current key value many sum least greatest)) := hw.sub [0, 6, 7, 8, 9, 10, 11, 12, 13, 14, 1, 2, 3, 4, 5] rfl rfl rfl
  refine lv_aload_n hx hb d_law_337 rfl (lv_at hl 3 rfl) ?_
  refine zr_calliF0 (As := []) (rest := [.int r1]) (wr := (oa, .inl (cJ, 1, .inr (.inl f))) :: esW cI qe w (S * w) (S + 1) wl fk fv fp sk sv ats ens wn held spilled fed sealed runs size cn current key value many sum least greatest) C c_EM_value g_EL_EM_value h_EM_value ⟨Nat.le_of_ble_eq_true rfl, Nat.le_of_ble_eq_true rfl⟩ [10, 11, 12, 13, 14] [0, 1, 2, 3, 4, 5, 6, 7, 8, 9] rfl rfl rfl rfl (by decide) rfl rfl hw hA hl.1 rfl (Nat.le_of_ble_eq_true rfl) d_law_338 ⟨rfl, rfl⟩ hf0 (fun r2 u2 H locs hr2 hw => ?_)
  have hw : Wd D (tyL cI cZ cJ) (Aw s) s H locs ((oa, .inl (cJ, 1, .inr (.inl f))) :: (esW cI qe w (S * w) (S + 1) wl fk fv fp sk sv ats ens wn held spilled fed sealed runs size cn current key value many sum least greatest ++ emW cI cZ qm K V ord lf 0 w (S * w + w) fed r (fed - r * w) sealed cn current key value many sum least greatest)) := hw
  refine lv_icmp_eq (tgt := 458) hx hb d_law_341 (by decide) (fun h341 => ?_) (fun h341 => ?_)
  · refine W.widen (k := cells + 1) (n := slots + 6) (Nat.le_succ _) (Nat.le_add_right _ _) ?_
    exact kk ls H locs hl ⟨f, (fk, fv, fp, sk, sv, ats, ens, wn, held, spilled, runs, size), K, V, ord, lf, 0, fed, r, sealed, cn, current, key, value, many, sum, least, greatest, hw, hrep, hai, hord⟩
  · exact absurd (hr1.trans hr2.symm) h341
set_option maxHeartbeats 4000000 in
set_option maxRecDepth 100000 in
theorem law_seal (E : LE p l s m meth c b L xs) (hG : Geo w S wl) (hl : lv_has ls 7 [(4, .int (nI i)), (0, .ref b), (1, .ref (qe 0)), (2, .ref (qm 0)), (3, .ref oa)]) (hi : i + 5 ≤ L) (hcs : cells + 1 ≤ 601024 ∧ slots + 6 ≤ 7292999) (hW : LW D cI cZ cJ s qe qm oa w S wl H locs) (kk : ∀ (ls : Array Slot) (H : Heap) (locs : List Loc), lv_has ls 7 [(4, .int (nI i)), (0, .ref b), (1, .ref (qe 0)), (2, .ref (qm 0)), (3, .ref oa)] → LW D cI cZ cJ s qe qm oa w S wl H locs → W p l e room_1 s m #[Value.ref b] below meth c H locs (cells + 1) (slots + 6) Q (F0 m 458 ls [])) : W p l e room_1 s m #[Value.ref b] below meth c H locs cells slots Q (F0 m 256 ls []) := by
  obtain ⟨C, hX, hbl, hTA, hL, hfl⟩ := E
  have hx := C.1.1
  have hb := C.1.2.1
  have hA : ∀ q : Nat, s.heap.size ≤ q → Aw s q := fun _ h => h
  have hbA : ¬ Aw s b := Nat.not_le.mpr hbl
  have hf0 : cells ≤ room_1.cells ∧ slots ≤ room_1.slots := ⟨by show cells ≤ 601024; omega, by show slots ≤ 7292999; omega⟩
  obtain ⟨f, ⟨fk, fv, fp, sk, sv, ats, ens, wn, held, spilled, runs, size⟩, K, V, ord, lf, thrown, fed, r, sealed, cn, current, key, value, many, sum, least, greatest, hw, hrep, hai, hord⟩ := hW
  have hw : Wd D (tyL cI cZ cJ) (Aw s) s H locs ((oa, .inl (cJ, 1, .inr (.inl f))) :: (esW cI qe w (S * w) (S + 1) wl fk fv fp sk sv ats ens wn held spilled fed sealed runs size cn current key value many sum least greatest ++ emW cI cZ qm K V ord lf thrown w (S * w + w) fed r (fed - r * w) sealed cn current key value many sum least greatest)) := hw
  cases sealed with
  | true =>
    refine lv_aload_n hx hb d_law_256 rfl (lv_at hl 2 rfl) ?_
    refine zr_calliF0 (As := []) (rest := []) (wr := (oa, .inl (cJ, 1, .inr (.inl f))) :: emW cI cZ qm K V ord lf thrown w (S * w + w) fed r (fed - r * w) true cn current key value many sum least greatest) C c_ES_seal_s g_EL_ES_seal h_ES_seal ⟨Nat.le_of_ble_eq_true rfl, Nat.le_of_ble_eq_true rfl⟩ [1, 2, 3, 4, 5, 6, 7, 8, 9] [0, 10, 11, 12, 13, 14] rfl rfl rfl rfl (by decide) rfl rfl hw hA hl.1 rfl (Nat.le_of_ble_eq_true rfl) d_law_257 ⟨rfl, rfl⟩ hf0 (fun r1 u1 H locs hr1 hw => ?_)
    have hw : Wd D (tyL cI cZ cJ) (Aw s) s H locs ((oa, .inl (cJ, 1, .inr (.inl f))) :: (esW cI qe w (S * w) (S + 1) wl fk fv fp sk sv ats ens wn held spilled fed true runs size cn current key value many sum least greatest ++ emW cI cZ qm K V ord lf thrown w (S * w + w) fed r (fed - r * w) true cn current key value many sum least greatest)) := hw.sub [0, 6, 7, 8, 9, 10, 11, 12, 13, 14, 1, 2, 3, 4, 5] rfl rfl rfl
    refine lv_aload_n hx hb d_law_260 rfl (lv_at hl 3 rfl) ?_
    refine zr_calliF0 (As := []) (rest := [.int r1]) (wr := (oa, .inl (cJ, 1, .inr (.inl f))) :: esW cI qe w (S * w) (S + 1) wl fk fv fp sk sv ats ens wn held spilled fed true runs size cn current key value many sum least greatest) C c_EM_seal_s g_EL_EM_seal h_EM_seal ⟨Nat.le_of_ble_eq_true rfl, Nat.le_of_ble_eq_true rfl⟩ [10, 11, 12, 13, 14] [0, 1, 2, 3, 4, 5, 6, 7, 8, 9] rfl rfl rfl rfl (by decide) rfl rfl hw hA hl.1 rfl (Nat.le_of_ble_eq_true rfl) d_law_261 ⟨rfl, rfl⟩ hf0 (fun r2 u2 H locs hr2 hw => ?_)
    have hw : Wd D (tyL cI cZ cJ) (Aw s) s H locs ((oa, .inl (cJ, 1, .inr (.inl f))) :: (esW cI qe w (S * w) (S + 1) wl fk fv fp sk sv ats ens wn held spilled fed true runs size cn current key value many sum least greatest ++ emW cI cZ qm K V ord lf 0 w (S * w + w) fed r (fed - r * w) true cn current key value many sum least greatest)) := hw
    refine lv_icmp_eq (tgt := 458) hx hb d_law_264 (by decide) (fun h264 => ?_) (fun h264 => ?_)
    · refine W.widen (k := cells + 1) (n := slots + 6) (Nat.le_succ _) (Nat.le_add_right _ _) ?_
      exact kk ls H locs hl ⟨f, (fk, fv, fp, sk, sv, ats, ens, wn, held, spilled, runs, size), K, V, ord, lf, 0, fed, r, true, cn, current, key, value, many, sum, least, greatest, hw, hrep, hai, hord⟩
    · exact absurd (hr1.trans hr2.symm) h264
  | false =>
    obtain ⟨h0, -, -⟩ := hrep.un
    subst h0
    obtain ⟨g1, g2, g3, g4, g5⟩ := hG
    have hG : Geo w S wl := ⟨g1, g2, g3, g4, g5⟩
    have hfd : fed ≤ 2064 := by have := hai.2.2; omega
    refine lv_aload_n hx hb d_law_256 rfl (lv_at hl 2 rfl) ?_
    refine zr_calliF0 (As := []) (rest := []) (wr := (oa, .inl (cJ, 1, .inr (.inl f))) :: emW cI cZ qm K V ord lf thrown w (S * w + w) fed r (fed - r * w) false 0 current key value many sum least greatest) C (c_ES_seal_u hG hrep) g_EL_ES_seal h_ES_seal ⟨Nat.le_of_ble_eq_true rfl, Nat.le_of_ble_eq_true rfl⟩ [1, 2, 3, 4, 5, 6, 7, 8, 9] [0, 10, 11, 12, 13, 14] rfl rfl rfl rfl (by decide) rfl rfl hw hA hl.1 rfl (Nat.le_of_ble_eq_true rfl) d_law_257 ⟨rfl, rfl⟩ hf0 (fun r1 u1 H locs hr1 hw => ?_)
    obtain ⟨fk, fv, fp, sk, sv, ats, ens, wn, held, spilled, runs, size⟩ := u1
    have hw : Wd D (tyL cI cZ cJ) (Aw s) s H locs ((oa, .inl (cJ, 1, .inr (.inl f))) :: (esW cI qe w (S * w) (S + 1) wl fk fv fp sk sv ats ens wn held spilled fed true runs size 0 0 key value many sum least greatest ++ emW cI cZ qm K V ord lf thrown w (S * w + w) fed r (fed - r * w) false 0 current key value many sum least greatest)) := hw.sub [0, 6, 7, 8, 9, 10, 11, 12, 13, 14, 1, 2, 3, 4, 5] rfl rfl rfl
    refine lv_aload_n hx hb d_law_260 rfl (lv_at hl 3 rfl) ?_
    refine zr_calliF0 (As := []) (rest := [.int r1]) (wr := (oa, .inl (cJ, 1, .inr (.inl f))) :: esW cI qe w (S * w) (S + 1) wl fk fv fp sk sv ats ens wn held spilled fed true runs size 0 0 key value many sum least greatest) C (c_EM_seal_u hfd) g_EL_EM_seal h_EM_seal ⟨Nat.le_of_ble_eq_true rfl, Nat.le_of_ble_eq_true rfl⟩ [10, 11, 12, 13, 14] [0, 1, 2, 3, 4, 5, 6, 7, 8, 9] rfl rfl rfl rfl (by decide) rfl rfl hw hA hl.1 rfl (Nat.le_of_ble_eq_true rfl) d_law_261 ⟨rfl, rfl⟩ hf0 (fun r2 u2 H locs hr2 hw => ?_)
    have hw : Wd D (tyL cI cZ cJ) (Aw s) s H locs ((oa, .inl (cJ, 1, .inr (.inl f))) :: (esW cI qe w (S * w) (S + 1) wl fk fv fp sk sv ats ens wn held spilled fed true runs size 0 0 key value many sum least greatest ++ emW cI cZ qm K V u2 lf 0 w (S * w + w) fed r (fed - r * w) true 0 0 key value many sum least greatest)) := hw
    refine lv_icmp_eq (tgt := 458) hx hb d_law_264 (by decide) (fun h264 => ?_) (fun h264 => ?_)
    · refine W.widen (k := cells + 1) (n := slots + 6) (Nat.le_succ _) (Nat.le_add_right _ _) ?_
      exact kk ls H locs hl ⟨f, (fk, fv, fp, sk, sv, ats, ens, wn, held, spilled, runs, size), K, V, u2, lf, 0, fed, r, true, 0, 0, key, value, many, sum, least, greatest, hw, hr1.2, hai, (fun _ => hr2.2)⟩
    · exact absurd (hr1.1.trans hr2.1.symm) h264
set_option maxHeartbeats 4000000 in
set_option maxRecDepth 100000 in
theorem law_nextRow (E : LE p l s m meth c b L xs) (hG : Geo w S wl) (hl : lv_has ls 7 [(4, .int (nI i)), (0, .ref b), (1, .ref (qe 0)), (2, .ref (qm 0)), (3, .ref oa)]) (hi : i + 5 ≤ L) (hcs : cells + 1 ≤ 601024 ∧ slots + 6 ≤ 7292999) (hW : LW D cI cZ cJ s qe qm oa w S wl H locs) (kk : ∀ (ls : Array Slot) (H : Heap) (locs : List Loc), lv_has ls 7 [(4, .int (nI i)), (0, .ref b), (1, .ref (qe 0)), (2, .ref (qm 0)), (3, .ref oa)] → LW D cI cZ cJ s qe qm oa w S wl H locs → W p l e room_1 s m #[Value.ref b] below meth c H locs (cells + 1) (slots + 6) Q (F0 m 458 ls [])) : W p l e room_1 s m #[Value.ref b] below meth c H locs cells slots Q (F0 m 269 ls []) := by
  obtain ⟨C, hX, hbl, hTA, hL, hfl⟩ := E
  have hx := C.1.1
  have hb := C.1.2.1
  have hA : ∀ q : Nat, s.heap.size ≤ q → Aw s q := fun _ h => h
  have hbA : ¬ Aw s b := Nat.not_le.mpr hbl
  have hf0 : cells ≤ room_1.cells ∧ slots ≤ room_1.slots := ⟨by show cells ≤ 601024; omega, by show slots ≤ 7292999; omega⟩
  obtain ⟨f, ⟨fk, fv, fp, sk, sv, ats, ens, wn, held, spilled, runs, size⟩, K, V, ord, lf, thrown, fed, r, sealed, cn, current, key, value, many, sum, least, greatest, hw, hrep, hai, hord⟩ := hW
  have hw : Wd D (tyL cI cZ cJ) (Aw s) s H locs ((oa, .inl (cJ, 1, .inr (.inl f))) :: (esW cI qe w (S * w) (S + 1) wl fk fv fp sk sv ats ens wn held spilled fed sealed runs size cn current key value many sum least greatest ++ emW cI cZ qm K V ord lf thrown w (S * w + w) fed r (fed - r * w) sealed cn current key value many sum least greatest)) := hw
  cases sealed with
  | false =>
    refine lv_aload_n hx hb d_law_269 rfl (lv_at hl 2 rfl) ?_
    refine zr_calliF0 (As := []) (rest := []) (wr := (oa, .inl (cJ, 1, .inr (.inl f))) :: emW cI cZ qm K V ord lf thrown w (S * w + w) fed r (fed - r * w) false cn current key value many sum least greatest) C c_ES_nextRow_u g_EL_ES_nextRow h_ES_nextRow ⟨Nat.le_of_ble_eq_true rfl, Nat.le_of_ble_eq_true rfl⟩ [1, 2, 3, 4, 5, 6, 7, 8, 9] [0, 10, 11, 12, 13, 14] rfl rfl rfl rfl (by decide) rfl rfl hw hA hl.1 rfl (Nat.le_of_ble_eq_true rfl) d_law_270 ⟨rfl, rfl⟩ hf0 (fun r1 u1 H locs hr1 hw => ?_)
    have hw : Wd D (tyL cI cZ cJ) (Aw s) s H locs ((oa, .inl (cJ, 1, .inr (.inl f))) :: (esW cI qe w (S * w) (S + 1) wl fk fv fp sk sv ats ens wn held spilled fed false runs size cn current key value many sum least greatest ++ emW cI cZ qm K V ord lf thrown w (S * w + w) fed r (fed - r * w) false cn current key value many sum least greatest)) := hw.sub [0, 6, 7, 8, 9, 10, 11, 12, 13, 14, 1, 2, 3, 4, 5] rfl rfl rfl
    refine lv_aload_n hx hb d_law_273 rfl (lv_at hl 3 rfl) ?_
    refine zr_calliF0 (As := []) (rest := [.int r1]) (wr := (oa, .inl (cJ, 1, .inr (.inl f))) :: esW cI qe w (S * w) (S + 1) wl fk fv fp sk sv ats ens wn held spilled fed false runs size cn current key value many sum least greatest) C c_EM_nextRow_u g_EL_EM_nextRow h_EM_nextRow ⟨Nat.le_of_ble_eq_true rfl, Nat.le_of_ble_eq_true rfl⟩ [10, 11, 12, 13, 14] [0, 1, 2, 3, 4, 5, 6, 7, 8, 9] rfl rfl rfl rfl (by decide) rfl rfl hw hA hl.1 rfl (Nat.le_of_ble_eq_true rfl) d_law_274 ⟨rfl, rfl⟩ hf0 (fun r2 u2 H locs hr2 hw => ?_)
    have hw : Wd D (tyL cI cZ cJ) (Aw s) s H locs ((oa, .inl (cJ, 1, .inr (.inl f))) :: (esW cI qe w (S * w) (S + 1) wl fk fv fp sk sv ats ens wn held spilled fed false runs size cn current key value many sum least greatest ++ emW cI cZ qm K V ord lf 0 w (S * w + w) fed r (fed - r * w) false cn current key value many sum least greatest)) := hw
    refine lv_icmp_eq (tgt := 458) hx hb d_law_277 (by decide) (fun h277 => ?_) (fun h277 => ?_)
    · refine W.widen (k := cells + 1) (n := slots + 6) (Nat.le_succ _) (Nat.le_add_right _ _) ?_
      exact kk ls H locs hl ⟨f, (fk, fv, fp, sk, sv, ats, ens, wn, held, spilled, runs, size), K, V, ord, lf, 0, fed, r, false, cn, current, key, value, many, sum, least, greatest, hw, hrep, hai, hord⟩
    · exact absurd (hr1.trans hr2.symm) h277
  | true =>
    obtain ⟨g1, g2, g3, g4, g5⟩ := hG
    have hG : Geo w S wl := ⟨g1, g2, g3, g4, g5⟩
    have hfd : fed ≤ 2064 := by have := hai.2.2; omega
    have hord := hord rfl
    have hcf : cn ≤ fed := hrep.se.2.nums.2.2.2.2.1
    by_cases hz : cn = fed
    · subst hz
      refine lv_aload_n hx hb d_law_269 rfl (lv_at hl 2 rfl) ?_
      refine zr_calliF0 (As := []) (rest := []) (wr := (oa, .inl (cJ, 1, .inr (.inl f))) :: emW cI cZ qm K V ord lf thrown w (S * w + w) cn r (cn - r * w) true cn current key value many sum least greatest) C (c_ES_nextRow_e hG hrep) g_EL_ES_nextRow h_ES_nextRow ⟨Nat.le_of_ble_eq_true rfl, Nat.le_of_ble_eq_true rfl⟩ [1, 2, 3, 4, 5, 6, 7, 8, 9] [0, 10, 11, 12, 13, 14] rfl rfl rfl rfl (by decide) rfl rfl hw hA hl.1 rfl (Nat.le_of_ble_eq_true rfl) d_law_270 ⟨rfl, rfl⟩ hf0 (fun r1 u1 H locs hr1 hw => ?_)
      have hw : Wd D (tyL cI cZ cJ) (Aw s) s H locs ((oa, .inl (cJ, 1, .inr (.inl f))) :: (esW cI qe w (S * w) (S + 1) wl fk fv fp sk sv ats ens wn held spilled cn true runs size cn 0 key value many sum least greatest ++ emW cI cZ qm K V ord lf thrown w (S * w + w) cn r (cn - r * w) true cn current key value many sum least greatest)) := hw.sub [0, 6, 7, 8, 9, 10, 11, 12, 13, 14, 1, 2, 3, 4, 5] rfl rfl rfl
      refine lv_aload_n hx hb d_law_273 rfl (lv_at hl 3 rfl) ?_
      refine zr_calliF0 (As := []) (rest := [.int r1]) (wr := (oa, .inl (cJ, 1, .inr (.inl f))) :: esW cI qe w (S * w) (S + 1) wl fk fv fp sk sv ats ens wn held spilled cn true runs size cn 0 key value many sum least greatest) C (c_EM_nextRow_e hfd) g_EL_EM_nextRow h_EM_nextRow ⟨Nat.le_of_ble_eq_true rfl, Nat.le_of_ble_eq_true rfl⟩ [10, 11, 12, 13, 14] [0, 1, 2, 3, 4, 5, 6, 7, 8, 9] rfl rfl rfl rfl (by decide) rfl rfl hw hA hl.1 rfl (Nat.le_of_ble_eq_true rfl) d_law_274 ⟨rfl, rfl⟩ hf0 (fun r2 u2 H locs hr2 hw => ?_)
      have hw : Wd D (tyL cI cZ cJ) (Aw s) s H locs ((oa, .inl (cJ, 1, .inr (.inl f))) :: (esW cI qe w (S * w) (S + 1) wl fk fv fp sk sv ats ens wn held spilled cn true runs size cn 0 key value many sum least greatest ++ emW cI cZ qm K V ord lf 0 w (S * w + w) cn r (cn - r * w) true cn 0 key value many sum least greatest)) := hw
      refine lv_icmp_eq (tgt := 458) hx hb d_law_277 (by decide) (fun h277 => ?_) (fun h277 => ?_)
      · refine W.widen (k := cells + 1) (n := slots + 6) (Nat.le_succ _) (Nat.le_add_right _ _) ?_
        exact kk ls H locs hl ⟨f, (fk, fv, fp, sk, sv, ats, ens, wn, held, spilled, runs, size), K, V, ord, lf, 0, cn, r, true, cn, 0, key, value, many, sum, least, greatest, hw, hrep, hai, (fun _ => hord)⟩
      · exact absurd (hr1.trans hr2.symm) h277
    · have hc : cn < fed := by omega
      refine lv_aload_n hx hb d_law_269 rfl (lv_at hl 2 rfl) ?_
      refine zr_calliF0 (As := []) (rest := []) (wr := (oa, .inl (cJ, 1, .inr (.inl f))) :: emW cI cZ qm K V ord lf thrown w (S * w + w) fed r (fed - r * w) true cn current key value many sum least greatest) C (c_ES_nextRow_g hG hrep hc) g_EL_ES_nextRow h_ES_nextRow ⟨Nat.le_of_ble_eq_true rfl, Nat.le_of_ble_eq_true rfl⟩ [1, 2, 3, 4, 5, 6, 7, 8, 9] [0, 10, 11, 12, 13, 14] rfl rfl rfl rfl (by decide) rfl rfl hw hA hl.1 rfl (Nat.le_of_ble_eq_true rfl) d_law_270 ⟨rfl, rfl⟩ hf0 (fun r1 u1 H locs hr1 hw => ?_)
      obtain ⟨fk, fv, fp, sk, sv, ats, ens, wn, held, spilled, runs, size⟩ := u1
      have hw : Wd D (tyL cI cZ cJ) (Aw s) s H locs ((oa, .inl (cJ, 1, .inr (.inl f))) :: (esW cI qe w (S * w) (S + 1) wl fk fv fp sk sv ats ens wn held spilled fed true runs size (cn + 1) 1 (K (ordf K fed cn)) (V (ordf K fed cn)) many sum least greatest ++ emW cI cZ qm K V ord lf thrown w (S * w + w) fed r (fed - r * w) true cn current key value many sum least greatest)) := hw.sub [0, 6, 7, 8, 9, 10, 11, 12, 13, 14, 1, 2, 3, 4, 5] rfl rfl rfl
      refine lv_aload_n hx hb d_law_273 rfl (lv_at hl 3 rfl) ?_
      refine zr_calliF0 (As := []) (rest := [.int r1]) (wr := (oa, .inl (cJ, 1, .inr (.inl f))) :: esW cI qe w (S * w) (S + 1) wl fk fv fp sk sv ats ens wn held spilled fed true runs size (cn + 1) 1 (K (ordf K fed cn)) (V (ordf K fed cn)) many sum least greatest) C (c_EM_nextRow_g hfd hord hc) g_EL_EM_nextRow h_EM_nextRow ⟨Nat.le_of_ble_eq_true rfl, Nat.le_of_ble_eq_true rfl⟩ [10, 11, 12, 13, 14] [0, 1, 2, 3, 4, 5, 6, 7, 8, 9] rfl rfl rfl rfl (by decide) rfl rfl hw hA hl.1 rfl (Nat.le_of_ble_eq_true rfl) d_law_274 ⟨rfl, rfl⟩ hf0 (fun r2 u2 H locs hr2 hw => ?_)
      have hw : Wd D (tyL cI cZ cJ) (Aw s) s H locs ((oa, .inl (cJ, 1, .inr (.inl f))) :: (esW cI qe w (S * w) (S + 1) wl fk fv fp sk sv ats ens wn held spilled fed true runs size (cn + 1) 1 (K (ordf K fed cn)) (V (ordf K fed cn)) many sum least greatest ++ emW cI cZ qm K V ord lf 0 w (S * w + w) fed r (fed - r * w) true (cn + 1) 1 (K (ordf K fed cn)) (V (ordf K fed cn)) many sum least greatest)) := hw
      refine lv_icmp_eq (tgt := 458) hx hb d_law_277 (by decide) (fun h277 => ?_) (fun h277 => ?_)
      · refine W.widen (k := cells + 1) (n := slots + 6) (Nat.le_succ _) (Nat.le_add_right _ _) ?_
        exact kk ls H locs hl ⟨f, (fk, fv, fp, sk, sv, ats, ens, wn, held, spilled, runs, size), K, V, ord, lf, 0, fed, r, true, cn + 1, 1, K (ordf K fed cn), V (ordf K fed cn), many, sum, least, greatest, hw, hr1.2, hai, (fun _ => hord)⟩
      · exact absurd (hr1.1.trans hr2.symm) h277
set_option maxHeartbeats 4000000 in
set_option maxRecDepth 100000 in
theorem law_nextGroup (E : LE p l s m meth c b L xs) (hG : Geo w S wl) (hl : lv_has ls 7 [(4, .int (nI i)), (0, .ref b), (1, .ref (qe 0)), (2, .ref (qm 0)), (3, .ref oa)]) (hi : i + 5 ≤ L) (hcs : cells + 1 ≤ 601024 ∧ slots + 6 ≤ 7292999) (hW : LW D cI cZ cJ s qe qm oa w S wl H locs) (kk : ∀ (ls : Array Slot) (H : Heap) (locs : List Loc), lv_has ls 7 [(4, .int (nI i)), (0, .ref b), (1, .ref (qe 0)), (2, .ref (qm 0)), (3, .ref oa)] → LW D cI cZ cJ s qe qm oa w S wl H locs → W p l e room_1 s m #[Value.ref b] below meth c H locs (cells + 1) (slots + 6) Q (F0 m 458 ls [])) : W p l e room_1 s m #[Value.ref b] below meth c H locs cells slots Q (F0 m 282 ls []) := by
  obtain ⟨C, hX, hbl, hTA, hL, hfl⟩ := E
  have hx := C.1.1
  have hb := C.1.2.1
  have hA : ∀ q : Nat, s.heap.size ≤ q → Aw s q := fun _ h => h
  have hbA : ¬ Aw s b := Nat.not_le.mpr hbl
  have hf0 : cells ≤ room_1.cells ∧ slots ≤ room_1.slots := ⟨by show cells ≤ 601024; omega, by show slots ≤ 7292999; omega⟩
  obtain ⟨f, ⟨fk, fv, fp, sk, sv, ats, ens, wn, held, spilled, runs, size⟩, K, V, ord, lf, thrown, fed, r, sealed, cn, current, key, value, many, sum, least, greatest, hw, hrep, hai, hord⟩ := hW
  have hw : Wd D (tyL cI cZ cJ) (Aw s) s H locs ((oa, .inl (cJ, 1, .inr (.inl f))) :: (esW cI qe w (S * w) (S + 1) wl fk fv fp sk sv ats ens wn held spilled fed sealed runs size cn current key value many sum least greatest ++ emW cI cZ qm K V ord lf thrown w (S * w + w) fed r (fed - r * w) sealed cn current key value many sum least greatest)) := hw
  cases sealed with
  | false =>
    refine lv_aload_n hx hb d_law_282 rfl (lv_at hl 2 rfl) ?_
    refine zr_calliF0 (As := []) (rest := []) (wr := (oa, .inl (cJ, 1, .inr (.inl f))) :: emW cI cZ qm K V ord lf thrown w (S * w + w) fed r (fed - r * w) false cn current key value many sum least greatest) C c_ES_nextGroup_u g_EL_ES_nextGroup h_ES_nextGroup ⟨Nat.le_of_ble_eq_true rfl, Nat.le_of_ble_eq_true rfl⟩ [1, 2, 3, 4, 5, 6, 7, 8, 9] [0, 10, 11, 12, 13, 14] rfl rfl rfl rfl (by decide) rfl rfl hw hA hl.1 rfl (Nat.le_of_ble_eq_true rfl) d_law_283 ⟨rfl, rfl⟩ hf0 (fun r1 u1 H locs hr1 hw => ?_)
    have hw : Wd D (tyL cI cZ cJ) (Aw s) s H locs ((oa, .inl (cJ, 1, .inr (.inl f))) :: (esW cI qe w (S * w) (S + 1) wl fk fv fp sk sv ats ens wn held spilled fed false runs size cn current key value many sum least greatest ++ emW cI cZ qm K V ord lf thrown w (S * w + w) fed r (fed - r * w) false cn current key value many sum least greatest)) := hw.sub [0, 6, 7, 8, 9, 10, 11, 12, 13, 14, 1, 2, 3, 4, 5] rfl rfl rfl
    refine lv_aload_n hx hb d_law_286 rfl (lv_at hl 3 rfl) ?_
    refine zr_calliF0 (As := []) (rest := [.int r1]) (wr := (oa, .inl (cJ, 1, .inr (.inl f))) :: esW cI qe w (S * w) (S + 1) wl fk fv fp sk sv ats ens wn held spilled fed false runs size cn current key value many sum least greatest) C c_EM_nextGroup_u g_EL_EM_nextGroup h_EM_nextGroup ⟨Nat.le_of_ble_eq_true rfl, Nat.le_of_ble_eq_true rfl⟩ [10, 11, 12, 13, 14] [0, 1, 2, 3, 4, 5, 6, 7, 8, 9] rfl rfl rfl rfl (by decide) rfl rfl hw hA hl.1 rfl (Nat.le_of_ble_eq_true rfl) d_law_287 ⟨rfl, rfl⟩ hf0 (fun r2 u2 H locs hr2 hw => ?_)
    have hw : Wd D (tyL cI cZ cJ) (Aw s) s H locs ((oa, .inl (cJ, 1, .inr (.inl f))) :: (esW cI qe w (S * w) (S + 1) wl fk fv fp sk sv ats ens wn held spilled fed false runs size cn current key value many sum least greatest ++ emW cI cZ qm K V ord lf 0 w (S * w + w) fed r (fed - r * w) false cn current key value many sum least greatest)) := hw
    refine lv_icmp_eq (tgt := 458) hx hb d_law_290 (by decide) (fun h290 => ?_) (fun h290 => ?_)
    · refine W.widen (k := cells + 1) (n := slots + 6) (Nat.le_succ _) (Nat.le_add_right _ _) ?_
      exact kk ls H locs hl ⟨f, (fk, fv, fp, sk, sv, ats, ens, wn, held, spilled, runs, size), K, V, ord, lf, 0, fed, r, false, cn, current, key, value, many, sum, least, greatest, hw, hrep, hai, hord⟩
    · exact absurd (hr1.trans hr2.symm) h290
  | true =>
    obtain ⟨g1, g2, g3, g4, g5⟩ := hG
    have hG : Geo w S wl := ⟨g1, g2, g3, g4, g5⟩
    have hfd : fed ≤ 2064 := by have := hai.2.2; omega
    have hord := hord rfl
    have hcf : cn ≤ fed := hrep.se.2.nums.2.2.2.2.1
    by_cases hz : cn = fed
    · subst hz
      refine lv_aload_n hx hb d_law_282 rfl (lv_at hl 2 rfl) ?_
      refine zr_calliF0 (As := []) (rest := []) (wr := (oa, .inl (cJ, 1, .inr (.inl f))) :: emW cI cZ qm K V ord lf thrown w (S * w + w) cn r (cn - r * w) true cn current key value many sum least greatest) C (c_ES_nextGroup_e hG hrep) g_EL_ES_nextGroup h_ES_nextGroup ⟨Nat.le_of_ble_eq_true rfl, Nat.le_of_ble_eq_true rfl⟩ [1, 2, 3, 4, 5, 6, 7, 8, 9] [0, 10, 11, 12, 13, 14] rfl rfl rfl rfl (by decide) rfl rfl hw hA hl.1 rfl (Nat.le_of_ble_eq_true rfl) d_law_283 ⟨rfl, rfl⟩ hf0 (fun r1 u1 H locs hr1 hw => ?_)
      have hw : Wd D (tyL cI cZ cJ) (Aw s) s H locs ((oa, .inl (cJ, 1, .inr (.inl f))) :: (esW cI qe w (S * w) (S + 1) wl fk fv fp sk sv ats ens wn held spilled cn true runs size cn 0 key value many sum least greatest ++ emW cI cZ qm K V ord lf thrown w (S * w + w) cn r (cn - r * w) true cn current key value many sum least greatest)) := hw.sub [0, 6, 7, 8, 9, 10, 11, 12, 13, 14, 1, 2, 3, 4, 5] rfl rfl rfl
      refine lv_aload_n hx hb d_law_286 rfl (lv_at hl 3 rfl) ?_
      refine zr_calliF0 (As := []) (rest := [.int r1]) (wr := (oa, .inl (cJ, 1, .inr (.inl f))) :: esW cI qe w (S * w) (S + 1) wl fk fv fp sk sv ats ens wn held spilled cn true runs size cn 0 key value many sum least greatest) C (c_EM_nextGroup_e hfd) g_EL_EM_nextGroup h_EM_nextGroup ⟨Nat.le_of_ble_eq_true rfl, Nat.le_of_ble_eq_true rfl⟩ [10, 11, 12, 13, 14] [0, 1, 2, 3, 4, 5, 6, 7, 8, 9] rfl rfl rfl rfl (by decide) rfl rfl hw hA hl.1 rfl (Nat.le_of_ble_eq_true rfl) d_law_287 ⟨rfl, rfl⟩ hf0 (fun r2 u2 H locs hr2 hw => ?_)
      have hw : Wd D (tyL cI cZ cJ) (Aw s) s H locs ((oa, .inl (cJ, 1, .inr (.inl f))) :: (esW cI qe w (S * w) (S + 1) wl fk fv fp sk sv ats ens wn held spilled cn true runs size cn 0 key value many sum least greatest ++ emW cI cZ qm K V ord lf 0 w (S * w + w) cn r (cn - r * w) true cn 0 key value many sum least greatest)) := hw
      refine lv_icmp_eq (tgt := 458) hx hb d_law_290 (by decide) (fun h290 => ?_) (fun h290 => ?_)
      · refine W.widen (k := cells + 1) (n := slots + 6) (Nat.le_succ _) (Nat.le_add_right _ _) ?_
        exact kk ls H locs hl ⟨f, (fk, fv, fp, sk, sv, ats, ens, wn, held, spilled, runs, size), K, V, ord, lf, 0, cn, r, true, cn, 0, key, value, many, sum, least, greatest, hw, hrep, hai, (fun _ => hord)⟩
      · exact absurd (hr1.trans hr2.symm) h290
    · have hc : cn < fed := by omega
      refine lv_aload_n hx hb d_law_282 rfl (lv_at hl 2 rfl) ?_
      refine zr_calliF0 (As := []) (rest := []) (wr := (oa, .inl (cJ, 1, .inr (.inl f))) :: emW cI cZ qm K V ord lf thrown w (S * w + w) fed r (fed - r * w) true cn current key value many sum least greatest) C (c_ES_nextGroup_g hG hrep hc) g_EL_ES_nextGroup h_ES_nextGroup ⟨Nat.le_of_ble_eq_true rfl, Nat.le_of_ble_eq_true rfl⟩ [1, 2, 3, 4, 5, 6, 7, 8, 9] [0, 10, 11, 12, 13, 14] rfl rfl rfl rfl (by decide) rfl rfl hw hA hl.1 rfl (Nat.le_of_ble_eq_true rfl) d_law_283 ⟨rfl, rfl⟩ hf0 (fun r1 u1 H locs hr1 hw => ?_)
      obtain ⟨fk, fv, fp, sk, sv, ats, ens, wn, held, spilled, runs, size⟩ := u1
      have hw : Wd D (tyL cI cZ cJ) (Aw s) s H locs ((oa, .inl (cJ, 1, .inr (.inl f))) :: (esW cI qe w (S * w) (S + 1) wl fk fv fp sk sv ats ens wn held spilled fed true runs size (cn + glen K (ordf K fed) fed (K (ordf K fed cn)) fed cn) 2 (K (ordf K fed cn)) value (nI (glen K (ordf K fed) fed (K (ordf K fed cn)) fed cn)) (gSum V (ordf K fed) cn (glen K (ordf K fed) fed (K (ordf K fed cn)) fed cn)) (gMin V (ordf K fed) cn (glen K (ordf K fed) fed (K (ordf K fed cn)) fed cn)) (gMax V (ordf K fed) cn (glen K (ordf K fed) fed (K (ordf K fed cn)) fed cn)) ++ emW cI cZ qm K V ord lf thrown w (S * w + w) fed r (fed - r * w) true cn current key value many sum least greatest)) := hw.sub [0, 6, 7, 8, 9, 10, 11, 12, 13, 14, 1, 2, 3, 4, 5] rfl rfl rfl
      refine lv_aload_n hx hb d_law_286 rfl (lv_at hl 3 rfl) ?_
      refine zr_calliF0 (As := []) (rest := [.int r1]) (wr := (oa, .inl (cJ, 1, .inr (.inl f))) :: esW cI qe w (S * w) (S + 1) wl fk fv fp sk sv ats ens wn held spilled fed true runs size (cn + glen K (ordf K fed) fed (K (ordf K fed cn)) fed cn) 2 (K (ordf K fed cn)) value (nI (glen K (ordf K fed) fed (K (ordf K fed cn)) fed cn)) (gSum V (ordf K fed) cn (glen K (ordf K fed) fed (K (ordf K fed cn)) fed cn)) (gMin V (ordf K fed) cn (glen K (ordf K fed) fed (K (ordf K fed cn)) fed cn)) (gMax V (ordf K fed) cn (glen K (ordf K fed) fed (K (ordf K fed cn)) fed cn))) C (c_EM_nextGroup_g hfd hord hc) g_EL_EM_nextGroup h_EM_nextGroup ⟨Nat.le_of_ble_eq_true rfl, Nat.le_of_ble_eq_true rfl⟩ [10, 11, 12, 13, 14] [0, 1, 2, 3, 4, 5, 6, 7, 8, 9] rfl rfl rfl rfl (by decide) rfl rfl hw hA hl.1 rfl (Nat.le_of_ble_eq_true rfl) d_law_287 ⟨rfl, rfl⟩ hf0 (fun r2 u2 H locs hr2 hw => ?_)
      have hw : Wd D (tyL cI cZ cJ) (Aw s) s H locs ((oa, .inl (cJ, 1, .inr (.inl f))) :: (esW cI qe w (S * w) (S + 1) wl fk fv fp sk sv ats ens wn held spilled fed true runs size (cn + glen K (ordf K fed) fed (K (ordf K fed cn)) fed cn) 2 (K (ordf K fed cn)) value (nI (glen K (ordf K fed) fed (K (ordf K fed cn)) fed cn)) (gSum V (ordf K fed) cn (glen K (ordf K fed) fed (K (ordf K fed cn)) fed cn)) (gMin V (ordf K fed) cn (glen K (ordf K fed) fed (K (ordf K fed cn)) fed cn)) (gMax V (ordf K fed) cn (glen K (ordf K fed) fed (K (ordf K fed cn)) fed cn)) ++ emW cI cZ qm K V ord lf 0 w (S * w + w) fed r (fed - r * w) true (cn + (glen K (ordf K fed) fed (K (ordf K fed cn)) fed cn)) 2 (K (ordf K fed cn)) value (nI (glen K (ordf K fed) fed (K (ordf K fed cn)) fed cn)) (gSum V (ordf K fed) cn (glen K (ordf K fed) fed (K (ordf K fed cn)) fed cn)) (gMin V (ordf K fed) cn (glen K (ordf K fed) fed (K (ordf K fed cn)) fed cn)) (gMax V (ordf K fed) cn (glen K (ordf K fed) fed (K (ordf K fed cn)) fed cn)))) := hw
      refine lv_icmp_eq (tgt := 458) hx hb d_law_290 (by decide) (fun h290 => ?_) (fun h290 => ?_)
      · refine W.widen (k := cells + 1) (n := slots + 6) (Nat.le_succ _) (Nat.le_add_right _ _) ?_
        exact kk ls H locs hl ⟨f, (fk, fv, fp, sk, sv, ats, ens, wn, held, spilled, runs, size), K, V, ord, lf, 0, fed, r, true, cn + glen K (ordf K fed) fed (K (ordf K fed cn)) fed cn, 2, K (ordf K fed cn), value, nI (glen K (ordf K fed) fed (K (ordf K fed cn)) fed cn), gSum V (ordf K fed) cn (glen K (ordf K fed) fed (K (ordf K fed cn)) fed cn), gMin V (ordf K fed) cn (glen K (ordf K fed) fed (K (ordf K fed cn)) fed cn), gMax V (ordf K fed) cn (glen K (ordf K fed) fed (K (ordf K fed cn)) fed cn), hw, hr1.2, hai, (fun _ => hord)⟩
      · exact absurd (hr1.1.trans hr2.symm) h290
set_option maxHeartbeats 4000000 in
set_option maxRecDepth 100000 in
theorem law_skipTo (E : LE p l s m meth c b L xs) (hG : Geo w S wl) (hl : lv_has ls 7 [(4, .int (nI i)), (0, .ref b), (1, .ref (qe 0)), (2, .ref (qm 0)), (3, .ref oa)]) (hi : i + 5 ≤ L) (hcs : cells + 1 ≤ 601024 ∧ slots + 6 ≤ 7292999) (hW : LW D cI cZ cJ s qe qm oa w S wl H locs) (kk : ∀ (ls : Array Slot) (H : Heap) (locs : List Loc), lv_has ls 7 [(4, .int (nI i)), (0, .ref b), (1, .ref (qe 0)), (2, .ref (qm 0)), (3, .ref oa)] → LW D cI cZ cJ s qe qm oa w S wl H locs → W p l e room_1 s m #[Value.ref b] below meth c H locs (cells + 1) (slots + 6) Q (F0 m 458 ls [])) : W p l e room_1 s m #[Value.ref b] below meth c H locs cells slots Q (F0 m 295 ls []) := by
  obtain ⟨C, hX, hbl, hTA, hL, hfl⟩ := E
  have hx := C.1.1
  have hb := C.1.2.1
  have hA : ∀ q : Nat, s.heap.size ≤ q → Aw s q := fun _ h => h
  have hbA : ¬ Aw s b := Nat.not_le.mpr hbl
  have hf0 : cells ≤ room_1.cells ∧ slots ≤ room_1.slots := ⟨by show cells ≤ 601024; omega, by show slots ≤ 7292999; omega⟩
  obtain ⟨f, ⟨fk, fv, fp, sk, sv, ats, ens, wn, held, spilled, runs, size⟩, K, V, ord, lf, thrown, fed, r, sealed, cn, current, key, value, many, sum, least, greatest, hw, hrep, hai, hord⟩ := hW
  have hw : Wd D (tyL cI cZ cJ) (Aw s) s H locs ((oa, .inl (cJ, 1, .inr (.inl f))) :: (esW cI qe w (S * w) (S + 1) wl fk fv fp sk sv ats ens wn held spilled fed sealed runs size cn current key value many sum least greatest ++ emW cI cZ qm K V ord lf thrown w (S * w + w) fed r (fed - r * w) sealed cn current key value many sum least greatest)) := hw
  cases sealed with
  | false =>
    refine lv_aload_n hx hb d_law_295 rfl (lv_at hl 2 rfl) ?_
    refine lv_aload_n hx hb d_law_296 rfl (lv_at hl 1 rfl) ?_
    refine lv_iload hx hb d_law_297 (lv_at hl 0 rfl) ?_
    refine lv_iconst (v := nI 1) hx hb d_law_299 (by decide) ?_
    refine zr_add hx hb d_law_300 ?_
    refine zr_sld C hX hbl hbA hw (by omega) (by omega) d_law_301 ?_
    refine zr_calliF0 (As := [.int (xs (i + 1))]) (rest := []) (wr := (oa, .inl (cJ, 1, .inr (.inl f))) :: emW cI cZ qm K V ord lf thrown w (S * w + w) fed r (fed - r * w) false cn current key value many sum least greatest) C c_ES_skipTo_u g_EL_ES_skipTo h_ES_skipTo ⟨Nat.le_of_ble_eq_true rfl, Nat.le_of_ble_eq_true rfl⟩ [1, 2, 3, 4, 5, 6, 7, 8, 9] [0, 10, 11, 12, 13, 14] rfl rfl rfl rfl (by decide) rfl rfl hw hA hl.1 rfl (Nat.le_of_ble_eq_true rfl) d_law_302 ⟨rfl, rfl⟩ hf0 (fun r1 u1 H locs hr1 hw => ?_)
    have hw : Wd D (tyL cI cZ cJ) (Aw s) s H locs ((oa, .inl (cJ, 1, .inr (.inl f))) :: (esW cI qe w (S * w) (S + 1) wl fk fv fp sk sv ats ens wn held spilled fed false runs size cn current key value many sum least greatest ++ emW cI cZ qm K V ord lf thrown w (S * w + w) fed r (fed - r * w) false cn current key value many sum least greatest)) := hw.sub [0, 6, 7, 8, 9, 10, 11, 12, 13, 14, 1, 2, 3, 4, 5] rfl rfl rfl
    refine lv_aload_n hx hb d_law_305 rfl (lv_at hl 3 rfl) ?_
    refine lv_aload_n hx hb d_law_306 rfl (lv_at hl 1 rfl) ?_
    refine lv_iload hx hb d_law_307 (lv_at hl 0 rfl) ?_
    refine lv_iconst (v := nI 1) hx hb d_law_309 (by decide) ?_
    refine zr_add hx hb d_law_310 ?_
    refine zr_sld C hX hbl hbA hw (by omega) (by omega) d_law_311 ?_
    refine zr_calliF0 (As := [.int (xs (i + 1))]) (rest := [.int r1]) (wr := (oa, .inl (cJ, 1, .inr (.inl f))) :: esW cI qe w (S * w) (S + 1) wl fk fv fp sk sv ats ens wn held spilled fed false runs size cn current key value many sum least greatest) C c_EM_skipTo_u g_EL_EM_skipTo h_EM_skipTo ⟨Nat.le_of_ble_eq_true rfl, Nat.le_of_ble_eq_true rfl⟩ [10, 11, 12, 13, 14] [0, 1, 2, 3, 4, 5, 6, 7, 8, 9] rfl rfl rfl rfl (by decide) rfl rfl hw hA hl.1 rfl (Nat.le_of_ble_eq_true rfl) d_law_312 ⟨rfl, rfl⟩ hf0 (fun r2 u2 H locs hr2 hw => ?_)
    have hw : Wd D (tyL cI cZ cJ) (Aw s) s H locs ((oa, .inl (cJ, 1, .inr (.inl f))) :: (esW cI qe w (S * w) (S + 1) wl fk fv fp sk sv ats ens wn held spilled fed false runs size cn current key value many sum least greatest ++ emW cI cZ qm K V ord lf 0 w (S * w + w) fed r (fed - r * w) false cn current key value many sum least greatest)) := hw
    refine lv_icmp_eq (tgt := 458) hx hb d_law_315 (by decide) (fun h315 => ?_) (fun h315 => ?_)
    · refine W.widen (k := cells + 1) (n := slots + 6) (Nat.le_succ _) (Nat.le_add_right _ _) ?_
      exact kk ls H locs hl ⟨f, (fk, fv, fp, sk, sv, ats, ens, wn, held, spilled, runs, size), K, V, ord, lf, 0, fed, r, false, cn, current, key, value, many, sum, least, greatest, hw, hrep, hai, hord⟩
    · exact absurd (hr1.trans hr2.symm) h315
  | true =>
    obtain ⟨g1, g2, g3, g4, g5⟩ := hG
    have hG : Geo w S wl := ⟨g1, g2, g3, g4, g5⟩
    have hfd : fed ≤ 2064 := by have := hai.2.2; omega
    have hord := hord rfl
    have hcf : cn ≤ fed := hrep.se.2.nums.2.2.2.2.1
    refine lv_aload_n hx hb d_law_295 rfl (lv_at hl 2 rfl) ?_
    refine lv_aload_n hx hb d_law_296 rfl (lv_at hl 1 rfl) ?_
    refine lv_iload hx hb d_law_297 (lv_at hl 0 rfl) ?_
    refine lv_iconst (v := nI 1) hx hb d_law_299 (by decide) ?_
    refine zr_add hx hb d_law_300 ?_
    refine zr_sld C hX hbl hbA hw (by omega) (by omega) d_law_301 ?_
    refine zr_calliF0 (As := [.int (xs (i + 1))]) (rest := []) (wr := (oa, .inl (cJ, 1, .inr (.inl f))) :: emW cI cZ qm K V ord lf thrown w (S * w + w) fed r (fed - r * w) true cn current key value many sum least greatest) C (c_ES_skipTo_g hG hrep) g_EL_ES_skipTo h_ES_skipTo ⟨Nat.le_of_ble_eq_true rfl, Nat.le_of_ble_eq_true rfl⟩ [1, 2, 3, 4, 5, 6, 7, 8, 9] [0, 10, 11, 12, 13, 14] rfl rfl rfl rfl (by decide) rfl rfl hw hA hl.1 rfl (Nat.le_of_ble_eq_true rfl) d_law_302 ⟨rfl, rfl⟩ hf0 (fun r1 u1 H locs hr1 hw => ?_)
    obtain ⟨fk, fv, fp, sk, sv, ats, ens, wn, held, spilled, runs, size⟩ := u1
    have hw : Wd D (tyL cI cZ cJ) (Aw s) s H locs ((oa, .inl (cJ, 1, .inr (.inl f))) :: (esW cI qe w (S * w) (S + 1) wl fk fv fp sk sv ats ens wn held spilled fed true runs size (cn + slen K (ordf K fed) fed (xs (i + 1)) fed cn) 0 key value many sum least greatest ++ emW cI cZ qm K V ord lf thrown w (S * w + w) fed r (fed - r * w) true cn current key value many sum least greatest)) := hw.sub [0, 6, 7, 8, 9, 10, 11, 12, 13, 14, 1, 2, 3, 4, 5] rfl rfl rfl
    refine lv_aload_n hx hb d_law_305 rfl (lv_at hl 3 rfl) ?_
    refine lv_aload_n hx hb d_law_306 rfl (lv_at hl 1 rfl) ?_
    refine lv_iload hx hb d_law_307 (lv_at hl 0 rfl) ?_
    refine lv_iconst (v := nI 1) hx hb d_law_309 (by decide) ?_
    refine zr_add hx hb d_law_310 ?_
    refine zr_sld C hX hbl hbA hw (by omega) (by omega) d_law_311 ?_
    refine zr_calliF0 (As := [.int (xs (i + 1))]) (rest := [.int r1]) (wr := (oa, .inl (cJ, 1, .inr (.inl f))) :: esW cI qe w (S * w) (S + 1) wl fk fv fp sk sv ats ens wn held spilled fed true runs size (cn + slen K (ordf K fed) fed (xs (i + 1)) fed cn) 0 key value many sum least greatest) C (c_EM_skipTo_g hfd hord hcf) g_EL_EM_skipTo h_EM_skipTo ⟨Nat.le_of_ble_eq_true rfl, Nat.le_of_ble_eq_true rfl⟩ [10, 11, 12, 13, 14] [0, 1, 2, 3, 4, 5, 6, 7, 8, 9] rfl rfl rfl rfl (by decide) rfl rfl hw hA hl.1 rfl (Nat.le_of_ble_eq_true rfl) d_law_312 ⟨rfl, rfl⟩ hf0 (fun r2 u2 H locs hr2 hw => ?_)
    have hw : Wd D (tyL cI cZ cJ) (Aw s) s H locs ((oa, .inl (cJ, 1, .inr (.inl f))) :: (esW cI qe w (S * w) (S + 1) wl fk fv fp sk sv ats ens wn held spilled fed true runs size (cn + slen K (ordf K fed) fed (xs (i + 1)) fed cn) 0 key value many sum least greatest ++ emW cI cZ qm K V ord lf 0 w (S * w + w) fed r (fed - r * w) true (cn + slen K (ordf K fed) fed (xs (i + 1)) fed cn) 0 key value many sum least greatest)) := hw
    refine lv_icmp_eq (tgt := 458) hx hb d_law_315 (by decide) (fun h315 => ?_) (fun h315 => ?_)
    · refine W.widen (k := cells + 1) (n := slots + 6) (Nat.le_succ _) (Nat.le_add_right _ _) ?_
      exact kk ls H locs hl ⟨f, (fk, fv, fp, sk, sv, ats, ens, wn, held, spilled, runs, size), K, V, ord, lf, 0, fed, r, true, cn + slen K (ordf K fed) fed (xs (i + 1)) fed cn, 0, key, value, many, sum, least, greatest, hw, hr1.2, hai, (fun _ => hord)⟩
    · exact absurd (hr1.1.trans hr2.symm) h315
set_option maxHeartbeats 4000000 in
set_option maxRecDepth 100000 in
theorem law_feed (E : LE p l s m meth c b L xs) (hG : Geo w S wl) (hl : lv_has ls 7 [(4, .int (nI i)), (0, .ref b), (1, .ref (qe 0)), (2, .ref (qm 0)), (3, .ref oa)]) (hi : i + 5 ≤ L) (hcs : cells + 1 ≤ 601024 ∧ slots + 6 ≤ 7292999) (hW : LW D cI cZ cJ s qe qm oa w S wl H locs) (kk : ∀ (ls : Array Slot) (H : Heap) (locs : List Loc), lv_has ls 7 [(4, .int (nI i)), (0, .ref b), (1, .ref (qe 0)), (2, .ref (qm 0)), (3, .ref oa)] → LW D cI cZ cJ s qe qm oa w S wl H locs → W p l e room_1 s m #[Value.ref b] below meth c H locs (cells + 1) (slots + 6) Q (F0 m 458 ls [])) : W p l e room_1 s m #[Value.ref b] below meth c H locs cells slots Q (F0 m 127 ls []) := by
  obtain ⟨C, hX, hbl, hTA, hL, hfl⟩ := E
  have hx := C.1.1
  have hb := C.1.2.1
  have hA : ∀ q : Nat, s.heap.size ≤ q → Aw s q := fun _ h => h
  have hbA : ¬ Aw s b := Nat.not_le.mpr hbl
  have hf0 : cells ≤ room_1.cells ∧ slots ≤ room_1.slots := ⟨by show cells ≤ 601024; omega, by show slots ≤ 7292999; omega⟩
  obtain ⟨f, ⟨fk, fv, fp, sk, sv, ats, ens, wn, held, spilled, runs, size⟩, K, V, ord, lf, thrown, fed, r, sealed, cn, current, key, value, many, sum, least, greatest, hw, hrep, hai, hord⟩ := hW
  have hw : Wd D (tyL cI cZ cJ) (Aw s) s H locs ((oa, .inl (cJ, 1, .inr (.inl f))) :: (esW cI qe w (S * w) (S + 1) wl fk fv fp sk sv ats ens wn held spilled fed sealed runs size cn current key value many sum least greatest ++ emW cI cZ qm K V ord lf thrown w (S * w + w) fed r (fed - r * w) sealed cn current key value many sum least greatest)) := hw
  cases sealed with
  | true =>
    refine lv_aload_n hx hb d_law_127 rfl (lv_at hl 2 rfl) ?_
    refine lv_aload_n hx hb d_law_128 rfl (lv_at hl 1 rfl) ?_
    refine lv_iload hx hb d_law_129 (lv_at hl 0 rfl) ?_
    refine lv_iconst (v := nI 1) hx hb d_law_131 (by decide) ?_
    refine zr_add hx hb d_law_132 ?_
    refine zr_sld C hX hbl hbA hw (by omega) (by omega) d_law_133 ?_
    refine lv_aload_n hx hb d_law_134 rfl (lv_at hl 1 rfl) ?_
    refine lv_iload hx hb d_law_135 (lv_at hl 0 rfl) ?_
    refine lv_iconst (v := nI 2) hx hb d_law_137 (by decide) ?_
    refine zr_add hx hb d_law_138 ?_
    refine zr_sld C hX hbl hbA hw (by omega) (by omega) d_law_139 ?_
    refine zr_calliF0 (As := [.int (xs (i + 1)), .int (xs (i + 2))]) (rest := []) (wr := (oa, .inl (cJ, 1, .inr (.inl f))) :: emW cI cZ qm K V ord lf thrown w (S * w + w) fed r (fed - r * w) true cn current key value many sum least greatest) C c_ES_feed_s g_EL_ES_feed h_ES_feed ⟨Nat.le_of_ble_eq_true rfl, Nat.le_of_ble_eq_true rfl⟩ [1, 2, 3, 4, 5, 6, 7, 8, 9] [0, 10, 11, 12, 13, 14] rfl rfl rfl rfl (by decide) rfl rfl hw hA hl.1 rfl (Nat.le_of_ble_eq_true rfl) d_law_140 ⟨rfl, rfl⟩ hf0 (fun r1 u1 H locs hr1 hw => ?_)
    have hw : Wd D (tyL cI cZ cJ) (Aw s) s H locs ((oa, .inl (cJ, 1, .inr (.inl f))) :: (esW cI qe w (S * w) (S + 1) wl fk fv fp sk sv ats ens wn held spilled fed true runs size cn current key value many sum least greatest ++ emW cI cZ qm K V ord lf thrown w (S * w + w) fed r (fed - r * w) true cn current key value many sum least greatest)) := hw.sub [0, 6, 7, 8, 9, 10, 11, 12, 13, 14, 1, 2, 3, 4, 5] rfl rfl rfl
    refine lv_aload_n hx hb d_law_143 rfl (lv_at hl 3 rfl) ?_
    refine lv_aload_n hx hb d_law_144 rfl (lv_at hl 1 rfl) ?_
    refine lv_iload hx hb d_law_145 (lv_at hl 0 rfl) ?_
    refine lv_iconst (v := nI 1) hx hb d_law_147 (by decide) ?_
    refine zr_add hx hb d_law_148 ?_
    refine zr_sld C hX hbl hbA hw (by omega) (by omega) d_law_149 ?_
    refine lv_aload_n hx hb d_law_150 rfl (lv_at hl 1 rfl) ?_
    refine lv_iload hx hb d_law_151 (lv_at hl 0 rfl) ?_
    refine lv_iconst (v := nI 2) hx hb d_law_153 (by decide) ?_
    refine zr_add hx hb d_law_154 ?_
    refine zr_sld C hX hbl hbA hw (by omega) (by omega) d_law_155 ?_
    refine zr_calliF0 (As := [.int (xs (i + 1)), .int (xs (i + 2))]) (rest := [.int r1]) (wr := (oa, .inl (cJ, 1, .inr (.inl f))) :: esW cI qe w (S * w) (S + 1) wl fk fv fp sk sv ats ens wn held spilled fed true runs size cn current key value many sum least greatest) C c_EM_feed_s g_EL_EM_feed h_EM_feed ⟨Nat.le_of_ble_eq_true rfl, Nat.le_of_ble_eq_true rfl⟩ [10, 11, 12, 13, 14] [0, 1, 2, 3, 4, 5, 6, 7, 8, 9] rfl rfl rfl rfl (by decide) rfl rfl hw hA hl.1 rfl (Nat.le_of_ble_eq_true rfl) d_law_156 ⟨rfl, rfl⟩ hf0 (fun r2 u2 H locs hr2 hw => ?_)
    have hw : Wd D (tyL cI cZ cJ) (Aw s) s H locs ((oa, .inl (cJ, 1, .inr (.inl f))) :: (esW cI qe w (S * w) (S + 1) wl fk fv fp sk sv ats ens wn held spilled fed true runs size cn current key value many sum least greatest ++ emW cI cZ qm K V ord lf 0 w (S * w + w) fed r (fed - r * w) true cn current key value many sum least greatest)) := hw
    refine lv_icmp_eq (tgt := 458) hx hb d_law_159 (by decide) (fun h159 => ?_) (fun h159 => ?_)
    · refine W.widen (k := cells + 1) (n := slots + 6) (Nat.le_succ _) (Nat.le_add_right _ _) ?_
      exact kk ls H locs hl ⟨f, (fk, fv, fp, sk, sv, ats, ens, wn, held, spilled, runs, size), K, V, ord, lf, 0, fed, r, true, cn, current, key, value, many, sum, least, greatest, hw, hrep, hai, hord⟩
    · exact absurd (hr1.trans hr2.symm) h159
  | false =>
    obtain ⟨h0, -, -⟩ := hrep.un
    subst h0
    by_cases hz : fed = S * w + w
    · subst hz
      refine lv_aload_n hx hb d_law_127 rfl (lv_at hl 2 rfl) ?_
      refine lv_aload_n hx hb d_law_128 rfl (lv_at hl 1 rfl) ?_
      refine lv_iload hx hb d_law_129 (lv_at hl 0 rfl) ?_
      refine lv_iconst (v := nI 1) hx hb d_law_131 (by decide) ?_
      refine zr_add hx hb d_law_132 ?_
      refine zr_sld C hX hbl hbA hw (by omega) (by omega) d_law_133 ?_
      refine lv_aload_n hx hb d_law_134 rfl (lv_at hl 1 rfl) ?_
      refine lv_iload hx hb d_law_135 (lv_at hl 0 rfl) ?_
      refine lv_iconst (v := nI 2) hx hb d_law_137 (by decide) ?_
      refine zr_add hx hb d_law_138 ?_
      refine zr_sld C hX hbl hbA hw (by omega) (by omega) d_law_139 ?_
      refine zr_calliF0 (As := [.int (xs (i + 1)), .int (xs (i + 2))]) (rest := []) (wr := (oa, .inl (cJ, 1, .inr (.inl f))) :: emW cI cZ qm K V ord lf thrown w (S * w + w) (S * w + w) r (S * w + w - r * w) false 0 current key value many sum least greatest) C (c_ES_feed_f hG) g_EL_ES_feed h_ES_feed ⟨Nat.le_of_ble_eq_true rfl, Nat.le_of_ble_eq_true rfl⟩ [1, 2, 3, 4, 5, 6, 7, 8, 9] [0, 10, 11, 12, 13, 14] rfl rfl rfl rfl (by decide) rfl rfl hw hA hl.1 rfl (Nat.le_of_ble_eq_true rfl) d_law_140 ⟨rfl, rfl⟩ hf0 (fun r1 u1 H locs hr1 hw => ?_)
      have hw : Wd D (tyL cI cZ cJ) (Aw s) s H locs ((oa, .inl (cJ, 1, .inr (.inl f))) :: (esW cI qe w (S * w) (S + 1) wl fk fv fp sk sv ats ens wn held spilled (S * w + w) false runs size 0 current key value many sum least greatest ++ emW cI cZ qm K V ord lf thrown w (S * w + w) (S * w + w) r (S * w + w - r * w) false 0 current key value many sum least greatest)) := hw.sub [0, 6, 7, 8, 9, 10, 11, 12, 13, 14, 1, 2, 3, 4, 5] rfl rfl rfl
      refine lv_aload_n hx hb d_law_143 rfl (lv_at hl 3 rfl) ?_
      refine lv_aload_n hx hb d_law_144 rfl (lv_at hl 1 rfl) ?_
      refine lv_iload hx hb d_law_145 (lv_at hl 0 rfl) ?_
      refine lv_iconst (v := nI 1) hx hb d_law_147 (by decide) ?_
      refine zr_add hx hb d_law_148 ?_
      refine zr_sld C hX hbl hbA hw (by omega) (by omega) d_law_149 ?_
      refine lv_aload_n hx hb d_law_150 rfl (lv_at hl 1 rfl) ?_
      refine lv_iload hx hb d_law_151 (lv_at hl 0 rfl) ?_
      refine lv_iconst (v := nI 2) hx hb d_law_153 (by decide) ?_
      refine zr_add hx hb d_law_154 ?_
      refine zr_sld C hX hbl hbA hw (by omega) (by omega) d_law_155 ?_
      refine zr_calliF0 (As := [.int (xs (i + 1)), .int (xs (i + 2))]) (rest := [.int r1]) (wr := (oa, .inl (cJ, 1, .inr (.inl f))) :: esW cI qe w (S * w) (S + 1) wl fk fv fp sk sv ats ens wn held spilled (S * w + w) false runs size 0 current key value many sum least greatest) C (c_EM_feed_f hG) g_EL_EM_feed h_EM_feed ⟨Nat.le_of_ble_eq_true rfl, Nat.le_of_ble_eq_true rfl⟩ [10, 11, 12, 13, 14] [0, 1, 2, 3, 4, 5, 6, 7, 8, 9] rfl rfl rfl rfl (by decide) rfl rfl hw hA hl.1 rfl (Nat.le_of_ble_eq_true rfl) d_law_156 ⟨rfl, rfl⟩ hf0 (fun r2 u2 H locs hr2 hw => ?_)
      have hw : Wd D (tyL cI cZ cJ) (Aw s) s H locs ((oa, .inl (cJ, 1, .inr (.inl f))) :: (esW cI qe w (S * w) (S + 1) wl fk fv fp sk sv ats ens wn held spilled (S * w + w) false runs size 0 current key value many sum least greatest ++ emW cI cZ qm K V ord lf 0 w (S * w + w) (S * w + w) r (S * w + w - r * w) false 0 current key value many sum least greatest)) := hw
      refine lv_icmp_eq (tgt := 458) hx hb d_law_159 (by decide) (fun h159 => ?_) (fun h159 => ?_)
      · refine W.widen (k := cells + 1) (n := slots + 6) (Nat.le_succ _) (Nat.le_add_right _ _) ?_
        exact kk ls H locs hl ⟨f, (fk, fv, fp, sk, sv, ats, ens, wn, held, spilled, runs, size), K, V, ord, lf, 0, _, r, false, 0, current, key, value, many, sum, least, greatest, hw, hrep, hai, hord⟩
      · exact absurd (hr1.trans hr2.symm) h159
    · have hlt : fed < S * w + w := by have := hai.2.2; omega
      refine lv_aload_n hx hb d_law_127 rfl (lv_at hl 2 rfl) ?_
      refine lv_aload_n hx hb d_law_128 rfl (lv_at hl 1 rfl) ?_
      refine lv_iload hx hb d_law_129 (lv_at hl 0 rfl) ?_
      refine lv_iconst (v := nI 1) hx hb d_law_131 (by decide) ?_
      refine zr_add hx hb d_law_132 ?_
      refine zr_sld C hX hbl hbA hw (by omega) (by omega) d_law_133 ?_
      refine lv_aload_n hx hb d_law_134 rfl (lv_at hl 1 rfl) ?_
      refine lv_iload hx hb d_law_135 (lv_at hl 0 rfl) ?_
      refine lv_iconst (v := nI 2) hx hb d_law_137 (by decide) ?_
      refine zr_add hx hb d_law_138 ?_
      refine zr_sld C hX hbl hbA hw (by omega) (by omega) d_law_139 ?_
      refine zr_calliF0 (As := [.int (xs (i + 1)), .int (xs (i + 2))]) (rest := []) (wr := (oa, .inl (cJ, 1, .inr (.inl f))) :: emW cI cZ qm K V ord lf thrown w (S * w + w) fed r (fed - r * w) false 0 current key value many sum least greatest) C (c_ES_feed_a hG hrep hz) g_EL_ES_feed h_ES_feed ⟨Nat.le_of_ble_eq_true rfl, Nat.le_of_ble_eq_true rfl⟩ [1, 2, 3, 4, 5, 6, 7, 8, 9] [0, 10, 11, 12, 13, 14] rfl rfl rfl rfl (by decide) rfl rfl hw hA hl.1 rfl (Nat.le_of_ble_eq_true rfl) d_law_140 ⟨rfl, rfl⟩ hf0 (fun r1 u1 H locs hr1 hw => ?_)
      obtain ⟨fk, fv, fp, sk, sv, ats, ens, wn, held, spilled, runs, size⟩ := u1
      have hw : Wd D (tyL cI cZ cJ) (Aw s) s H locs ((oa, .inl (cJ, 1, .inr (.inl f))) :: (esW cI qe w (S * w) (S + 1) wl fk fv fp sk sv ats ens wn held spilled (fed + 1) false runs size 0 current key value many sum least greatest ++ emW cI cZ qm K V ord lf thrown w (S * w + w) fed r (fed - r * w) false 0 current key value many sum least greatest)) := hw.sub [0, 6, 7, 8, 9, 10, 11, 12, 13, 14, 1, 2, 3, 4, 5] rfl rfl rfl
      refine lv_aload_n hx hb d_law_143 rfl (lv_at hl 3 rfl) ?_
      refine lv_aload_n hx hb d_law_144 rfl (lv_at hl 1 rfl) ?_
      refine lv_iload hx hb d_law_145 (lv_at hl 0 rfl) ?_
      refine lv_iconst (v := nI 1) hx hb d_law_147 (by decide) ?_
      refine zr_add hx hb d_law_148 ?_
      refine zr_sld C hX hbl hbA hw (by omega) (by omega) d_law_149 ?_
      refine lv_aload_n hx hb d_law_150 rfl (lv_at hl 1 rfl) ?_
      refine lv_iload hx hb d_law_151 (lv_at hl 0 rfl) ?_
      refine lv_iconst (v := nI 2) hx hb d_law_153 (by decide) ?_
      refine zr_add hx hb d_law_154 ?_
      refine zr_sld C hX hbl hbA hw (by omega) (by omega) d_law_155 ?_
      refine zr_calliF0 (As := [.int (xs (i + 1)), .int (xs (i + 2))]) (rest := [.int r1]) (wr := (oa, .inl (cJ, 1, .inr (.inl f))) :: esW cI qe w (S * w) (S + 1) wl fk fv fp sk sv ats ens wn held spilled (fed + 1) false runs size 0 current key value many sum least greatest) C (c_EM_feed_a hG hai hz) g_EL_EM_feed h_EM_feed ⟨Nat.le_of_ble_eq_true rfl, Nat.le_of_ble_eq_true rfl⟩ [10, 11, 12, 13, 14] [0, 1, 2, 3, 4, 5, 6, 7, 8, 9] rfl rfl rfl rfl (by decide) rfl rfl hw hA hl.1 rfl (Nat.le_of_ble_eq_true rfl) d_law_156 ⟨rfl, rfl⟩ hf0 (fun r2 u2 H locs hr2 hw => ?_)
      have hw : Wd D (tyL cI cZ cJ) (Aw s) s H locs ((oa, .inl (cJ, 1, .inr (.inl f))) :: (esW cI qe w (S * w) (S + 1) wl fk fv fp sk sv ats ens wn held spilled (fed + 1) false runs size 0 current key value many sum least greatest ++ emW cI cZ qm (upd K fed (xs (i + 1))) (upd V fed (xs (i + 2))) ord lf 0 w (S * w + w) (fed + 1) (spF w fed r) (fed + 1 - spF w fed r * w) false 0 current key value many sum least greatest)) := hw
      refine lv_icmp_eq (tgt := 458) hx hb d_law_159 (by decide) (fun h159 => ?_) (fun h159 => ?_)
      · refine W.widen (k := cells + 1) (n := slots + 6) (Nat.le_succ _) (Nat.le_add_right _ _) ?_
        exact kk ls H locs hl ⟨f, (fk, fv, fp, sk, sv, ats, ens, wn, held, spilled, runs, size), upd K fed (xs (i + 1)), upd V fed (xs (i + 2)), ord, lf, 0, fed + 1, spF w fed r, false, 0, current, key, value, many, sum, least, greatest, hw, hr1.2, (hai.step hG.1 hlt), (fun h => by cases h)⟩
      · exact absurd (hr1.1.trans hr2.symm) h159
end LAW
end
section
/-! ===== the law's cases feedMany, group, count (walks printed by gen/lw2.py) ===== -/
theorem cnt_all {f : Nat → Bool} : ∀ n, (∀ k, k < n → f k = true) → cntB f n = n := by
  intro n
  induction n with
  | zero => intro _; rfl
  | succ n ih => intro h; simp only [cntB]; rw [ih (fun k hk => h k (by omega)), h n (by omega)]; rfl
theorem cnt_law_u {w S : Nat} {K V : Nat → Int32} {fed : Nat} {fk fv fp sk sv : Nat → Int32} {ats ens : Nat → Nat} {held spilled runs : Nat} (h : RepU w S K V fed fk fv fp sk sv ats ens held spilled runs) (hw0 : 0 < w) : cntB (fun j => hasB ats ens (some j)) runs = runs := by
  refine cnt_all runs (fun k hk => ?_)
  obtain ⟨h1, h2⟩ := h.2.2.1 k hk
  show decide (ats k < ens k) = true
  refine decide_eq_true ?_
  rw [h1, h2, Nat.add_mul]; omega
theorem cnt_law_s {w S wl : Nat} {K V : Nat → Int32} {fed c : Nat} {fk fv sk sv : Nat → Int32} {ats ens : Nat → Nat} {wn : Nat → Option Nat} {held spilled runs size : Nat} (h : RepS w S wl K V fed c fk fv sk sv ats ens wn held spilled runs size) (hw0 : 0 < w) (hw : w ≤ 64) (hS : S * w ≤ 2000) : cntB (fun j => hasB ats ens (some j)) runs = cntB (leftB K fed c w) fed := by
  rw [cnt_congr (g := leftB K fed c w) runs (fun k hk => h.left hw0 hw hS hk)]
  have hlt : ∀ k, leftB K fed c w k = true → k < runs ∧ k < fed := by
    intro k hk
    obtain ⟨i, h1, h2, h3⟩ := leftB_iff.mp hk
    have h4 : ordf K fed i < fed := ordf_lt (by have := h.fed_le; omega) h2
    obtain ⟨r, pi, ⟨g0, g1, g2, g3, g4, g5⟩, -⟩ := h
    have h5 : ordf K fed i / w * w ≤ ordf K fed i := Nat.div_mul_le_self _ _
    have h6 : ordf K fed i / w ≤ ordf K fed i := Nat.div_le_self _ _
    have h7 : k < r + 1 := by
      rw [← h3]
      refine (Nat.div_lt_iff_lt_mul hw0).mpr ?_
      rw [Nat.add_mul]; omega
    exact ⟨by omega, by omega⟩
  refine cnt_eq (fun k hk => ?_) (fun k hk => ?_)
  · cases hq : leftB K fed c w k with
    | false => rfl
    | true => have := (hlt k hq).1; omega
  · cases hq : leftB K fed c w k with
    | false => rfl
    | true => have := (hlt k hq).2; omega
section LAW2
variable {p : Program} {l : Launch} {e : Env} {s : State} {m : MethodId} {below : List Frame} {meth : Method} {c : Code} {b L : Nat} {xs : Nat → Int32} {D : va_G} {cI cZ cJ : ClassId} {qe qm : Nat → Nat} {oa w S wl : Nat} {ls : Array Slot} {i : Nat} {H : Heap} {locs : List Loc} {cells slots : Nat} {Q : State → Prop}
set_option maxHeartbeats 4000000 in
set_option maxRecDepth 100000 in
theorem law_group (E : LE p l s m meth c b L xs) (hG : Geo w S wl) (hl : lv_has ls 7 [(4, .int (nI i)), (0, .ref b), (1, .ref (qe 0)), (2, .ref (qm 0)), (3, .ref oa)]) (hi : i + 5 ≤ L) (hcs : cells + 1 ≤ 601024 ∧ slots + 6 ≤ 7292999) (hW : LW D cI cZ cJ s qe qm oa w S wl H locs) (kk : ∀ (ls : Array Slot) (H : Heap) (locs : List Loc), lv_has ls 7 [(4, .int (nI i)), (0, .ref b), (1, .ref (qe 0)), (2, .ref (qm 0)), (3, .ref oa)] → LW D cI cZ cJ s qe qm oa w S wl H locs → W p l e room_1 s m #[Value.ref b] below meth c H locs (cells + 1) (slots + 6) Q (F0 m 458 ls [])) : W p l e room_1 s m #[Value.ref b] below meth c H locs cells slots Q (F0 m 346 ls []) := by
  obtain ⟨C, hX, hbl, hTA, hL, hfl⟩ := E
  have hx := C.1.1
  have hb := C.1.2.1
  have hA : ∀ q : Nat, s.heap.size ≤ q → Aw s q := fun _ h => h
  have hbA : ¬ Aw s b := Nat.not_le.mpr hbl
  have hf0 : cells ≤ room_1.cells ∧ slots ≤ room_1.slots := ⟨by show cells ≤ 601024; omega, by show slots ≤ 7292999; omega⟩
  obtain ⟨f, ⟨fk, fv, fp, sk, sv, ats, ens, wn, held, spilled, runs, size⟩, K, V, ord, lf, thrown, fed, r, sealed, cn, current, key, value, many, sum, least, greatest, hw, hrep, hai, hord⟩ := hW
  have hw : Wd D (tyL cI cZ cJ) (Aw s) s H locs ((oa, .inl (cJ, 1, .inr (.inl f))) :: (esW cI qe w (S * w) (S + 1) wl fk fv fp sk sv ats ens wn held spilled fed sealed runs size cn current key value many sum least greatest ++ emW cI cZ qm K V ord lf thrown w (S * w + w) fed r (fed - r * w) sealed cn current key value many sum least greatest)) := hw
  by_cases hn : xs (i + 1) < 0 ∨ 3 < xs (i + 1)
  · refine lv_aload_n hx hb d_law_346 rfl (lv_at hl 2 rfl) ?_
    refine lv_aload_n hx hb d_law_347 rfl (lv_at hl 1 rfl) ?_
    refine lv_iload hx hb d_law_348 (lv_at hl 0 rfl) ?_
    refine lv_iconst (v := nI 1) hx hb d_law_350 (by decide) ?_
    refine zr_add hx hb d_law_351 ?_
    refine zr_sld C hX hbl hbA hw (by omega) (by omega) d_law_352 ?_
    refine lv_aload_n hx hb d_law_353 rfl (lv_at hl 4 rfl) ?_
    have hTU : ∀ U : State, U.heap = H → s.WarmedH U.vm → TA U := fun U hU hWm => hTA.ext hWm (fun q cell h => by rw [hU, hw.2.2.2.2.1 q (Array.getElem?_eq_some_iff.mp h).1 (Nat.not_le.mpr (Array.getElem?_eq_some_iff.mp h).1)]; exact h)
    refine zr_callX (As := [.ref (qe 0), .int (xs (i + 1)), .ref oa]) (rest := []) (wr := emW cI cZ qm K V ord lf thrown w (S * w + w) fed r (fed - r * w) sealed cn current key value many sum least greatest) C (c_EL_group_t hfl hn) x_EL_group h_EL_group ⟨Nat.le_of_ble_eq_true rfl, Nat.le_of_ble_eq_true rfl⟩ [0, 1, 2, 3, 4, 5, 6, 7, 8, 9] [10, 11, 12, 13, 14] rfl rfl rfl rfl (by decide) hw hTU hA hl.1 rfl (Nat.le_of_ble_eq_true rfl) d_law_354 ⟨by show cells + 1 ≤ 601024; omega, by show slots + 6 ≤ 7292999; omega⟩ (fun r1 u1 H locs hr1 hw => ?_)
    have hw : Wd D (tyL cI cZ cJ) (Aw s) s H locs ((oa, .inl (cJ, 1, .inr (.inl f))) :: (esW cI qe w (S * w) (S + 1) wl fk fv fp sk sv ats ens wn held spilled fed sealed runs size cn current key value many sum least greatest ++ emW cI cZ qm K V ord lf thrown w (S * w + w) fed r (fed - r * w) sealed cn current key value many sum least greatest)) := hw.sub [5, 6, 7, 8, 9, 10, 11, 12, 13, 14, 0, 1, 2, 3, 4] rfl rfl rfl
    refine zr_top (y := 1) hr1 ?_
    have hf0 : cells + 1 ≤ room_1.cells ∧ slots + 6 ≤ room_1.slots := hcs
    refine lv_istore (lv' := [(5, .int 1), (4, .int (nI i)), (0, .ref b), (1, .ref (qe 0)), (2, .ref (qm 0)), (3, .ref oa)]) hx hb d_law_357 hl (by decide) rfl (fun ls hl => ?_)
    refine lv_aload_n hx hb d_law_359 rfl (lv_at hl 4 rfl) ?_
    refine lv_aload_n hx hb d_law_360 rfl (lv_at hl 2 rfl) ?_
    refine lv_iload hx hb d_law_361 (lv_at hl 1 rfl) ?_
    refine lv_iconst (v := nI 1) hx hb d_law_363 (by decide) ?_
    refine zr_add hx hb d_law_364 ?_
    refine zr_sld C hX hbl hbA hw (by omega) (by omega) d_law_365 ?_
    refine zr_calliF0 (As := [.int (xs (i + 1))]) (rest := []) (wr := (oa, .inl (cJ, 1, .inr (.inl f))) :: esW cI qe w (S * w) (S + 1) wl fk fv fp sk sv ats ens wn held spilled fed sealed runs size cn current key value many sum least greatest) C (c_EM_group_t hn) g_EL_EM_group h_EM_group ⟨Nat.le_of_ble_eq_true rfl, Nat.le_of_ble_eq_true rfl⟩ [10, 11, 12, 13, 14] [0, 1, 2, 3, 4, 5, 6, 7, 8, 9] rfl rfl rfl rfl (by decide) rfl rfl hw hA hl.1 rfl (Nat.le_of_ble_eq_true rfl) d_law_366 ⟨rfl, rfl⟩ hf0 (fun r2 u2 H locs hr2 hw => ?_)
    have hw : Wd D (tyL cI cZ cJ) (Aw s) s H locs ((oa, .inl (cJ, 1, .inr (.inl f))) :: (esW cI qe w (S * w) (S + 1) wl fk fv fp sk sv ats ens wn held spilled fed sealed runs size cn current key value many sum least greatest ++ emW cI cZ qm K V ord lf 1 w (S * w + w) fed r (fed - r * w) sealed cn current key value many sum least greatest)) := hw
    refine lv_istore (lv' := [(6, .int r2), (5, .int 1), (4, .int (nI i)), (0, .ref b), (1, .ref (qe 0)), (2, .ref (qm 0)), (3, .ref oa)]) hx hb d_law_369 hl (by decide) rfl (fun ls hl => ?_)
    refine lv_aload_n hx hb d_law_371 rfl (lv_at hl 5 rfl) ?_
    refine zr_calliF0 (As := []) (rest := []) (wr := (oa, .inl (cJ, 1, .inr (.inl f))) :: esW cI qe w (S * w) (S + 1) wl fk fv fp sk sv ats ens wn held spilled fed sealed runs size cn current key value many sum least greatest) C c_EM_thrown g_EL_EM_thrown h_EM_thrown ⟨Nat.le_of_ble_eq_true rfl, Nat.le_of_ble_eq_true rfl⟩ [10, 11, 12, 13, 14] [0, 1, 2, 3, 4, 5, 6, 7, 8, 9] rfl rfl rfl rfl (by decide) rfl rfl hw hA hl.1 rfl (Nat.le_of_ble_eq_true rfl) d_law_372 ⟨rfl, rfl⟩ hf0 (fun r3 u3 H locs hr3 hw => ?_)
    have hw : Wd D (tyL cI cZ cJ) (Aw s) s H locs ((oa, .inl (cJ, 1, .inr (.inl f))) :: (esW cI qe w (S * w) (S + 1) wl fk fv fp sk sv ats ens wn held spilled fed sealed runs size cn current key value many sum least greatest ++ emW cI cZ qm K V ord lf 1 w (S * w + w) fed r (fed - r * w) sealed cn current key value many sum least greatest)) := hw
    refine zr_top (y := 1) hr3 ?_
    refine lv_iload hx hb d_law_375 (lv_at hl 1 rfl) ?_
    refine lv_icmp_eq (tgt := 382) hx hb d_law_377 (by decide) (fun h377 => ?_) (fun h377 => ?_)
    · refine lv_iload hx hb d_law_382 (lv_at hl 1 rfl) ?_
      refine lv_if_ne (tgt := 399) hx hb d_law_384 (by decide) (fun h384 => ?_) (fun h384 => ?_)
      · refine lv_goto (tgt := 458) hx hb d_law_399 (by decide) ?_
        exact kk ls H locs (lv_sub hl [2, 3, 4, 5, 6] rfl) ⟨f, (fk, fv, fp, sk, sv, ats, ens, wn, held, spilled, runs, size), K, V, ord, lf, 1, fed, r, sealed, cn, current, key, value, many, sum, least, greatest, hw, hrep, hai, hord⟩
      · exact absurd h384 (by decide)
    · exact absurd rfl h377
  · obtain ⟨n, hn, hne⟩ := nI_of2 (x := xs (i + 1)) (M := 3) (n := 3) (by decide) (fun h => hn (Or.inl h)) (Int32.not_lt.mp (fun h => hn (Or.inr h)))
    refine lv_aload_n hx hb d_law_346 rfl (lv_at hl 2 rfl) ?_
    refine lv_aload_n hx hb d_law_347 rfl (lv_at hl 1 rfl) ?_
    refine lv_iload hx hb d_law_348 (lv_at hl 0 rfl) ?_
    refine lv_iconst (v := nI 1) hx hb d_law_350 (by decide) ?_
    refine zr_add hx hb d_law_351 ?_
    refine zr_sld C hX hbl hbA hw (by omega) (by omega) d_law_352 ?_
    refine zr_top (y := nI n) hne ?_
    refine lv_aload_n hx hb d_law_353 rfl (lv_at hl 4 rfl) ?_
    have hTU : ∀ U : State, U.heap = H → s.WarmedH U.vm → TA U := fun U hU hWm => hTA.ext hWm (fun q cell h => by rw [hU, hw.2.2.2.2.1 q (Array.getElem?_eq_some_iff.mp h).1 (Nat.not_le.mpr (Array.getElem?_eq_some_iff.mp h).1)]; exact h)
    refine zr_callX (As := [.ref (qe 0), .int (nI n), .ref oa]) (rest := []) (wr := emW cI cZ qm K V ord lf thrown w (S * w + w) fed r (fed - r * w) sealed cn current key value many sum least greatest) C (c_EL_group_k (fun sz => c_ES_group hn)) x_EL_group h_EL_group ⟨Nat.le_of_ble_eq_true rfl, Nat.le_of_ble_eq_true rfl⟩ [0, 1, 2, 3, 4, 5, 6, 7, 8, 9] [10, 11, 12, 13, 14] rfl rfl rfl rfl (by decide) hw hTU hA hl.1 rfl (Nat.le_of_ble_eq_true rfl) d_law_354 ⟨by show cells + 1 ≤ 601024; omega, by show slots + 6 ≤ 7292999; omega⟩ (fun r1 u1 H locs hr1 hw => ?_)
    obtain ⟨u1, v1⟩ := u1
    obtain ⟨hr1, hq1⟩ := hr1
    have hw : Wd D (tyL cI cZ cJ) (Aw s) s H locs ((oa, .inl (cJ, 1, .inr (.inl (vp_updL f 0 v1.toInt64)))) :: (esW cI qe w (S * w) (S + 1) wl fk fv fp sk sv ats ens wn held spilled fed sealed runs size cn current key value many sum least greatest ++ emW cI cZ qm K V ord lf thrown w (S * w + w) fed r (fed - r * w) sealed cn current key value many sum least greatest)) := hw.sub [5, 6, 7, 8, 9, 10, 11, 12, 13, 14, 0, 1, 2, 3, 4] rfl rfl rfl
    refine zr_top (y := 0) hr1 ?_
    have hf0 : cells + 1 ≤ room_1.cells ∧ slots + 6 ≤ room_1.slots := hcs
    refine lv_istore (lv' := [(5, .int 0), (4, .int (nI i)), (0, .ref b), (1, .ref (qe 0)), (2, .ref (qm 0)), (3, .ref oa)]) hx hb d_law_357 hl (by decide) rfl (fun ls hl => ?_)
    refine lv_aload_n hx hb d_law_359 rfl (lv_at hl 4 rfl) ?_
    refine lv_aload_n hx hb d_law_360 rfl (lv_at hl 2 rfl) ?_
    refine lv_iload hx hb d_law_361 (lv_at hl 1 rfl) ?_
    refine lv_iconst (v := nI 1) hx hb d_law_363 (by decide) ?_
    refine zr_add hx hb d_law_364 ?_
    refine zr_sld C hX hbl hbA hw (by omega) (by omega) d_law_365 ?_
    refine zr_top (y := nI n) hne ?_
    refine zr_calliF0 (As := [.int (nI n)]) (rest := []) (wr := (oa, .inl (cJ, 1, .inr (.inl (vp_updL f 0 v1.toInt64)))) :: esW cI qe w (S * w) (S + 1) wl fk fv fp sk sv ats ens wn held spilled fed sealed runs size cn current key value many sum least greatest) C (c_EM_group hn) g_EL_EM_group h_EM_group ⟨Nat.le_of_ble_eq_true rfl, Nat.le_of_ble_eq_true rfl⟩ [10, 11, 12, 13, 14] [0, 1, 2, 3, 4, 5, 6, 7, 8, 9] rfl rfl rfl rfl (by decide) rfl rfl hw hA hl.1 rfl (Nat.le_of_ble_eq_true rfl) d_law_366 ⟨rfl, rfl⟩ hf0 (fun r2 u2 H locs hr2 hw => ?_)
    have hw : Wd D (tyL cI cZ cJ) (Aw s) s H locs ((oa, .inl (cJ, 1, .inr (.inl (vp_updL f 0 v1.toInt64)))) :: (esW cI qe w (S * w) (S + 1) wl fk fv fp sk sv ats ens wn held spilled fed sealed runs size cn current key value many sum least greatest ++ emW cI cZ qm K V ord lf 0 w (S * w + w) fed r (fed - r * w) sealed cn current key value many sum least greatest)) := hw
    refine lv_istore (lv' := [(6, .int r2), (5, .int 0), (4, .int (nI i)), (0, .ref b), (1, .ref (qe 0)), (2, .ref (qm 0)), (3, .ref oa)]) hx hb d_law_369 hl (by decide) rfl (fun ls hl => ?_)
    refine lv_aload_n hx hb d_law_371 rfl (lv_at hl 5 rfl) ?_
    refine zr_calliF0 (As := []) (rest := []) (wr := (oa, .inl (cJ, 1, .inr (.inl (vp_updL f 0 v1.toInt64)))) :: esW cI qe w (S * w) (S + 1) wl fk fv fp sk sv ats ens wn held spilled fed sealed runs size cn current key value many sum least greatest) C c_EM_thrown g_EL_EM_thrown h_EM_thrown ⟨Nat.le_of_ble_eq_true rfl, Nat.le_of_ble_eq_true rfl⟩ [10, 11, 12, 13, 14] [0, 1, 2, 3, 4, 5, 6, 7, 8, 9] rfl rfl rfl rfl (by decide) rfl rfl hw hA hl.1 rfl (Nat.le_of_ble_eq_true rfl) d_law_372 ⟨rfl, rfl⟩ hf0 (fun r3 u3 H locs hr3 hw => ?_)
    have hw : Wd D (tyL cI cZ cJ) (Aw s) s H locs ((oa, .inl (cJ, 1, .inr (.inl (vp_updL f 0 v1.toInt64)))) :: (esW cI qe w (S * w) (S + 1) wl fk fv fp sk sv ats ens wn held spilled fed sealed runs size cn current key value many sum least greatest ++ emW cI cZ qm K V ord lf 0 w (S * w + w) fed r (fed - r * w) sealed cn current key value many sum least greatest)) := hw
    refine zr_top (y := 0) hr3 ?_
    refine lv_iload hx hb d_law_375 (lv_at hl 1 rfl) ?_
    refine lv_icmp_eq (tgt := 382) hx hb d_law_377 (by decide) (fun h377 => ?_) (fun h377 => ?_)
    · refine lv_iload hx hb d_law_382 (lv_at hl 1 rfl) ?_
      refine lv_if_ne (tgt := 399) hx hb d_law_384 (by decide) (fun h384 => ?_) (fun h384 => ?_)
      · exact absurd rfl h384
      · refine lv_aload_n hx hb d_law_387 rfl (lv_at hl 6 rfl) ?_
        refine lv_iconst (v := nI 0) hx hb d_law_388 (by decide) ?_
        refine zr_lld C hw 0 2 rfl rfl (Nat.le_of_ble_eq_true rfl) (by decide) (v := v1.toInt64) rfl d_law_389 ?_
        refine lv_iload hx hb d_law_390 (lv_at hl 0 rfl) ?_
        refine lv_i2l (v := v1.toInt64) hx hb d_law_392 (by have hv : v1 = r2 := (hq1.trans hr2.symm); rw [hv]) ?_
        refine zr_lcmp0 hx hb d_law_393 ?_
        refine lv_if_eq (tgt := 399) hx hb d_law_394 (by decide) (fun h394 => ?_) (fun h394 => ?_)
        · refine lv_goto (tgt := 458) hx hb d_law_399 (by decide) ?_
          exact kk ls H locs (lv_sub hl [2, 3, 4, 5, 6] rfl) ⟨_, (fk, fv, fp, sk, sv, ats, ens, wn, held, spilled, runs, size), K, V, ord, lf, 0, fed, r, sealed, cn, current, key, value, many, sum, least, greatest, hw, hrep, hai, hord⟩
        · exact absurd rfl h394
    · exact absurd rfl h377
set_option maxHeartbeats 4000000 in
set_option maxRecDepth 100000 in
theorem law_count_k {f : Nat → Int64} {fk fv fp sk sv : Nat → Int32} {ats ens : Nat → Nat} {wn : Nat → Option Nat} {held spilled runs size : Nat} {K V : Nat → Int32} {ord : Nat → Nat} {lf : Nat → Bool} {thrown : Int32} {fed r : Nat} {sealed : Bool} {cn : Nat} {current key value many sum least greatest : Int32} (E : LE p l s m meth c b L xs) (hG : Geo w S wl) (hl : lv_has ls 7 [(4, .int (nI i)), (0, .ref b), (1, .ref (qe 0)), (2, .ref (qm 0)), (3, .ref oa)]) (hi : i + 5 ≤ L) (hcs : cells + 1 ≤ 601024 ∧ slots + 6 ≤ 7292999) (hw : Wd D (tyL cI cZ cJ) (Aw s) s H locs ((oa, .inl (cJ, 1, .inr (.inl f))) :: (esW cI qe w (S * w) (S + 1) wl fk fv fp sk sv ats ens wn held spilled fed sealed runs size cn current key value many sum least greatest ++ emW cI cZ qm K V ord lf thrown w (S * w + w) fed r (fed - r * w) sealed cn current key value many sum least greatest))) (hrep : RepE w S wl K V fed r sealed cn (fk, fv, fp, sk, sv, ats, ens, wn, held, spilled, runs, size)) (hai : AI w S fed r) (hord : sealed = true → ∀ i, i < fed → ord i = ordf K fed i) {n : Nat} (hn : n ≤ 3) (hne : xs (i + 1) = nI n) (hv : ∀ k, k < runs → k < S + 1 ∧ ats k < 2 ^ 31 ∧ ens k < 2 ^ 31) (hmo : S + 1 ≤ 2001) (hru : runs ≤ 2001) {S2 : Type} {post2 : Int32 → S2 → Prop} {lfF : S2 → Nat → Bool} (hM2 : ∀ sz, MetI l y_EM_count b_EM_count 2 (some .int) (rmF 1 23) D (tyL cI cZ cJ) [.ref (qm 0), .int (nI n)] (emW cI cZ qm K V ord lf thrown w (S * w + w) fed r (fed - r * w) sealed cn current key value many sum least greatest) sz post2 (fun u => emW cI cZ qm K V ord (lfF u) 0 w (S * w + w) fed r (fed - r * w) sealed cn current key value many sum least greatest)) (hp2 : ∀ r2 u, post2 r2 u → r2 = nI (if n = 0 then fed else if n = 1 then spilled else if n = 2 then cn else cntB (fun j => hasB ats ens (some j)) runs)) (kk : ∀ (ls : Array Slot) (H : Heap) (locs : List Loc), lv_has ls 7 [(4, .int (nI i)), (0, .ref b), (1, .ref (qe 0)), (2, .ref (qm 0)), (3, .ref oa)] → LW D cI cZ cJ s qe qm oa w S wl H locs → W p l e room_1 s m #[Value.ref b] below meth c H locs (cells + 1) (slots + 6) Q (F0 m 458 ls [])) : W p l e room_1 s m #[Value.ref b] below meth c H locs cells slots Q (F0 m 402 ls []) := by
  obtain ⟨C, hX, hbl, hTA, hL, hfl⟩ := E
  have hx := C.1.1
  have hb := C.1.2.1
  have hA : ∀ q : Nat, s.heap.size ≤ q → Aw s q := fun _ h => h
  have hbA : ¬ Aw s b := Nat.not_le.mpr hbl
  have hf0 : cells ≤ room_1.cells ∧ slots ≤ room_1.slots := ⟨by show cells ≤ 601024; omega, by show slots ≤ 7292999; omega⟩
  refine lv_aload_n hx hb d_law_402 rfl (lv_at hl 2 rfl) ?_
  refine lv_aload_n hx hb d_law_403 rfl (lv_at hl 1 rfl) ?_
  refine lv_iload hx hb d_law_404 (lv_at hl 0 rfl) ?_
  refine lv_iconst (v := nI 1) hx hb d_law_406 (by decide) ?_
  refine zr_add hx hb d_law_407 ?_
  refine zr_sld C hX hbl hbA hw (by omega) (by omega) d_law_408 ?_
  refine zr_top (y := nI n) hne ?_
  refine lv_aload_n hx hb d_law_409 rfl (lv_at hl 4 rfl) ?_
  have hTU : ∀ U : State, U.heap = H → s.WarmedH U.vm → TA U := fun U hU hWm => hTA.ext hWm (fun q cell h => by rw [hU, hw.2.2.2.2.1 q (Array.getElem?_eq_some_iff.mp h).1 (Nat.not_le.mpr (Array.getElem?_eq_some_iff.mp h).1)]; exact h)
  refine zr_callX (As := [.ref (qe 0), .int (nI n), .ref oa]) (rest := []) (wr := emW cI cZ qm K V ord lf thrown w (S * w + w) fed r (fed - r * w) sealed cn current key value many sum least greatest) C (c_EL_count_k (fun sz => c_ES_count hn hv hmo hru)) x_EL_count h_EL_count ⟨Nat.le_of_ble_eq_true rfl, Nat.le_of_ble_eq_true rfl⟩ [0, 1, 2, 3, 4, 5, 6, 7, 8, 9] [10, 11, 12, 13, 14] rfl rfl rfl rfl (by decide) hw hTU hA hl.1 rfl (Nat.le_of_ble_eq_true rfl) d_law_410 ⟨by show cells + 1 ≤ 601024; omega, by show slots + 6 ≤ 7292999; omega⟩ (fun r1 u1 H locs hr1 hw => ?_)
  obtain ⟨u1, v1⟩ := u1
  obtain ⟨hr1, hq1⟩ := hr1
  have hw : Wd D (tyL cI cZ cJ) (Aw s) s H locs ((oa, .inl (cJ, 1, .inr (.inl (vp_updL f 0 v1.toInt64)))) :: (esW cI qe w (S * w) (S + 1) wl fk fv fp sk sv ats ens wn held spilled fed sealed runs size cn current key value many sum least greatest ++ emW cI cZ qm K V ord lf thrown w (S * w + w) fed r (fed - r * w) sealed cn current key value many sum least greatest)) := hw.sub [5, 6, 7, 8, 9, 10, 11, 12, 13, 14, 0, 1, 2, 3, 4] rfl rfl rfl
  refine zr_top (y := 0) hr1 ?_
  have hf0 : cells + 1 ≤ room_1.cells ∧ slots + 6 ≤ room_1.slots := hcs
  refine lv_istore (lv' := [(5, .int 0), (4, .int (nI i)), (0, .ref b), (1, .ref (qe 0)), (2, .ref (qm 0)), (3, .ref oa)]) hx hb d_law_413 hl (by decide) rfl (fun ls hl => ?_)
  refine lv_aload_n hx hb d_law_415 rfl (lv_at hl 4 rfl) ?_
  refine lv_aload_n hx hb d_law_416 rfl (lv_at hl 2 rfl) ?_
  refine lv_iload hx hb d_law_417 (lv_at hl 1 rfl) ?_
  refine lv_iconst (v := nI 1) hx hb d_law_419 (by decide) ?_
  refine zr_add hx hb d_law_420 ?_
  refine zr_sld C hX hbl hbA hw (by omega) (by omega) d_law_421 ?_
  refine zr_top (y := nI n) hne ?_
  refine zr_calliF0 (As := [.int (nI n)]) (rest := []) (wr := (oa, .inl (cJ, 1, .inr (.inl (vp_updL f 0 v1.toInt64)))) :: esW cI qe w (S * w) (S + 1) wl fk fv fp sk sv ats ens wn held spilled fed sealed runs size cn current key value many sum least greatest) C (hM2 _) g_EL_EM_count h_EM_count ⟨Nat.le_of_ble_eq_true rfl, Nat.le_of_ble_eq_true rfl⟩ [10, 11, 12, 13, 14] [0, 1, 2, 3, 4, 5, 6, 7, 8, 9] rfl rfl rfl rfl (by decide) rfl rfl hw hA hl.1 rfl (Nat.le_of_ble_eq_true rfl) d_law_422 ⟨rfl, rfl⟩ hf0 (fun r2 u2 H locs hr2 hw => ?_)
  have hw : Wd D (tyL cI cZ cJ) (Aw s) s H locs ((oa, .inl (cJ, 1, .inr (.inl (vp_updL f 0 v1.toInt64)))) :: (esW cI qe w (S * w) (S + 1) wl fk fv fp sk sv ats ens wn held spilled fed sealed runs size cn current key value many sum least greatest ++ emW cI cZ qm K V ord (lfF u2) 0 w (S * w + w) fed r (fed - r * w) sealed cn current key value many sum least greatest)) := hw
  refine lv_istore (lv' := [(6, .int r2), (5, .int 0), (4, .int (nI i)), (0, .ref b), (1, .ref (qe 0)), (2, .ref (qm 0)), (3, .ref oa)]) hx hb d_law_425 hl (by decide) rfl (fun ls hl => ?_)
  refine lv_aload_n hx hb d_law_427 rfl (lv_at hl 5 rfl) ?_
  refine zr_calliF0 (As := []) (rest := []) (wr := (oa, .inl (cJ, 1, .inr (.inl (vp_updL f 0 v1.toInt64)))) :: esW cI qe w (S * w) (S + 1) wl fk fv fp sk sv ats ens wn held spilled fed sealed runs size cn current key value many sum least greatest) C c_EM_thrown g_EL_EM_thrown h_EM_thrown ⟨Nat.le_of_ble_eq_true rfl, Nat.le_of_ble_eq_true rfl⟩ [10, 11, 12, 13, 14] [0, 1, 2, 3, 4, 5, 6, 7, 8, 9] rfl rfl rfl rfl (by decide) rfl rfl hw hA hl.1 rfl (Nat.le_of_ble_eq_true rfl) d_law_428 ⟨rfl, rfl⟩ hf0 (fun r3 u3 H locs hr3 hw => ?_)
  have hw : Wd D (tyL cI cZ cJ) (Aw s) s H locs ((oa, .inl (cJ, 1, .inr (.inl (vp_updL f 0 v1.toInt64)))) :: (esW cI qe w (S * w) (S + 1) wl fk fv fp sk sv ats ens wn held spilled fed sealed runs size cn current key value many sum least greatest ++ emW cI cZ qm K V ord (lfF u2) 0 w (S * w + w) fed r (fed - r * w) sealed cn current key value many sum least greatest)) := hw
  refine zr_top (y := 0) hr3 ?_
  refine lv_iload hx hb d_law_431 (lv_at hl 1 rfl) ?_
  refine lv_icmp_eq (tgt := 438) hx hb d_law_433 (by decide) (fun h433 => ?_) (fun h433 => ?_)
  · refine lv_iload hx hb d_law_438 (lv_at hl 1 rfl) ?_
    refine lv_if_ne (tgt := 455) hx hb d_law_440 (by decide) (fun h440 => ?_) (fun h440 => ?_)
    · exact absurd rfl h440
    · refine lv_aload_n hx hb d_law_443 rfl (lv_at hl 6 rfl) ?_
      refine lv_iconst (v := nI 0) hx hb d_law_444 (by decide) ?_
      refine zr_lld C hw 0 2 rfl rfl (Nat.le_of_ble_eq_true rfl) (by decide) (v := v1.toInt64) rfl d_law_445 ?_
      refine lv_iload hx hb d_law_446 (lv_at hl 0 rfl) ?_
      refine lv_i2l (v := v1.toInt64) hx hb d_law_448 (by have hv : v1 = r2 := (hq1.trans (hp2 _ _ hr2).symm); rw [hv]) ?_
      refine zr_lcmp0 hx hb d_law_449 ?_
      refine lv_if_eq (tgt := 455) hx hb d_law_450 (by decide) (fun h450 => ?_) (fun h450 => ?_)
      · refine lv_goto (tgt := 458) hx hb d_law_455 (by decide) ?_
        exact kk ls H locs (lv_sub hl [2, 3, 4, 5, 6] rfl) ⟨_, (fk, fv, fp, sk, sv, ats, ens, wn, held, spilled, runs, size), K, V, ord, lfF u2, 0, fed, r, sealed, cn, current, key, value, many, sum, least, greatest, hw, hrep, hai, hord⟩
      · exact absurd rfl h450
  · exact absurd rfl h433
set_option maxHeartbeats 4000000 in
set_option maxRecDepth 100000 in
theorem law_count (E : LE p l s m meth c b L xs) (hG : Geo w S wl) (hl : lv_has ls 7 [(4, .int (nI i)), (0, .ref b), (1, .ref (qe 0)), (2, .ref (qm 0)), (3, .ref oa)]) (hi : i + 5 ≤ L) (hcs : cells + 1 ≤ 601024 ∧ slots + 6 ≤ 7292999) (hW : LW D cI cZ cJ s qe qm oa w S wl H locs) (kk : ∀ (ls : Array Slot) (H : Heap) (locs : List Loc), lv_has ls 7 [(4, .int (nI i)), (0, .ref b), (1, .ref (qe 0)), (2, .ref (qm 0)), (3, .ref oa)] → LW D cI cZ cJ s qe qm oa w S wl H locs → W p l e room_1 s m #[Value.ref b] below meth c H locs (cells + 1) (slots + 6) Q (F0 m 458 ls [])) : W p l e room_1 s m #[Value.ref b] below meth c H locs cells slots Q (F0 m 402 ls []) := by
  obtain ⟨C, hX, hbl, hTA, hL, hfl⟩ := E
  have hx := C.1.1
  have hb := C.1.2.1
  have hA : ∀ q : Nat, s.heap.size ≤ q → Aw s q := fun _ h => h
  have hbA : ¬ Aw s b := Nat.not_le.mpr hbl
  have hf0 : cells ≤ room_1.cells ∧ slots ≤ room_1.slots := ⟨by show cells ≤ 601024; omega, by show slots ≤ 7292999; omega⟩
  obtain ⟨f, ⟨fk, fv, fp, sk, sv, ats, ens, wn, held, spilled, runs, size⟩, K, V, ord, lf, thrown, fed, r, sealed, cn, current, key, value, many, sum, least, greatest, hw, hrep, hai, hord⟩ := hW
  have hw : Wd D (tyL cI cZ cJ) (Aw s) s H locs ((oa, .inl (cJ, 1, .inr (.inl f))) :: (esW cI qe w (S * w) (S + 1) wl fk fv fp sk sv ats ens wn held spilled fed sealed runs size cn current key value many sum least greatest ++ emW cI cZ qm K V ord lf thrown w (S * w + w) fed r (fed - r * w) sealed cn current key value many sum least greatest)) := hw
  by_cases hn : xs (i + 1) < 0 ∨ 3 < xs (i + 1)
  · refine lv_aload_n hx hb d_law_402 rfl (lv_at hl 2 rfl) ?_
    refine lv_aload_n hx hb d_law_403 rfl (lv_at hl 1 rfl) ?_
    refine lv_iload hx hb d_law_404 (lv_at hl 0 rfl) ?_
    refine lv_iconst (v := nI 1) hx hb d_law_406 (by decide) ?_
    refine zr_add hx hb d_law_407 ?_
    refine zr_sld C hX hbl hbA hw (by omega) (by omega) d_law_408 ?_
    refine lv_aload_n hx hb d_law_409 rfl (lv_at hl 4 rfl) ?_
    have hTU : ∀ U : State, U.heap = H → s.WarmedH U.vm → TA U := fun U hU hWm => hTA.ext hWm (fun q cell h => by rw [hU, hw.2.2.2.2.1 q (Array.getElem?_eq_some_iff.mp h).1 (Nat.not_le.mpr (Array.getElem?_eq_some_iff.mp h).1)]; exact h)
    refine zr_callX (As := [.ref (qe 0), .int (xs (i + 1)), .ref oa]) (rest := []) (wr := emW cI cZ qm K V ord lf thrown w (S * w + w) fed r (fed - r * w) sealed cn current key value many sum least greatest) C (c_EL_count_t hfl hn) x_EL_count h_EL_count ⟨Nat.le_of_ble_eq_true rfl, Nat.le_of_ble_eq_true rfl⟩ [0, 1, 2, 3, 4, 5, 6, 7, 8, 9] [10, 11, 12, 13, 14] rfl rfl rfl rfl (by decide) hw hTU hA hl.1 rfl (Nat.le_of_ble_eq_true rfl) d_law_410 ⟨by show cells + 1 ≤ 601024; omega, by show slots + 6 ≤ 7292999; omega⟩ (fun r1 u1 H locs hr1 hw => ?_)
    have hw : Wd D (tyL cI cZ cJ) (Aw s) s H locs ((oa, .inl (cJ, 1, .inr (.inl f))) :: (esW cI qe w (S * w) (S + 1) wl fk fv fp sk sv ats ens wn held spilled fed sealed runs size cn current key value many sum least greatest ++ emW cI cZ qm K V ord lf thrown w (S * w + w) fed r (fed - r * w) sealed cn current key value many sum least greatest)) := hw.sub [5, 6, 7, 8, 9, 10, 11, 12, 13, 14, 0, 1, 2, 3, 4] rfl rfl rfl
    refine zr_top (y := 1) hr1 ?_
    have hf0 : cells + 1 ≤ room_1.cells ∧ slots + 6 ≤ room_1.slots := hcs
    refine lv_istore (lv' := [(5, .int 1), (4, .int (nI i)), (0, .ref b), (1, .ref (qe 0)), (2, .ref (qm 0)), (3, .ref oa)]) hx hb d_law_413 hl (by decide) rfl (fun ls hl => ?_)
    refine lv_aload_n hx hb d_law_415 rfl (lv_at hl 4 rfl) ?_
    refine lv_aload_n hx hb d_law_416 rfl (lv_at hl 2 rfl) ?_
    refine lv_iload hx hb d_law_417 (lv_at hl 1 rfl) ?_
    refine lv_iconst (v := nI 1) hx hb d_law_419 (by decide) ?_
    refine zr_add hx hb d_law_420 ?_
    refine zr_sld C hX hbl hbA hw (by omega) (by omega) d_law_421 ?_
    refine zr_calliF0 (As := [.int (xs (i + 1))]) (rest := []) (wr := (oa, .inl (cJ, 1, .inr (.inl f))) :: esW cI qe w (S * w) (S + 1) wl fk fv fp sk sv ats ens wn held spilled fed sealed runs size cn current key value many sum least greatest) C (c_EM_count_t hn) g_EL_EM_count h_EM_count ⟨Nat.le_of_ble_eq_true rfl, Nat.le_of_ble_eq_true rfl⟩ [10, 11, 12, 13, 14] [0, 1, 2, 3, 4, 5, 6, 7, 8, 9] rfl rfl rfl rfl (by decide) rfl rfl hw hA hl.1 rfl (Nat.le_of_ble_eq_true rfl) d_law_422 ⟨rfl, rfl⟩ hf0 (fun r2 u2 H locs hr2 hw => ?_)
    have hw : Wd D (tyL cI cZ cJ) (Aw s) s H locs ((oa, .inl (cJ, 1, .inr (.inl f))) :: (esW cI qe w (S * w) (S + 1) wl fk fv fp sk sv ats ens wn held spilled fed sealed runs size cn current key value many sum least greatest ++ emW cI cZ qm K V ord lf 1 w (S * w + w) fed r (fed - r * w) sealed cn current key value many sum least greatest)) := hw
    refine lv_istore (lv' := [(6, .int r2), (5, .int 1), (4, .int (nI i)), (0, .ref b), (1, .ref (qe 0)), (2, .ref (qm 0)), (3, .ref oa)]) hx hb d_law_425 hl (by decide) rfl (fun ls hl => ?_)
    refine lv_aload_n hx hb d_law_427 rfl (lv_at hl 5 rfl) ?_
    refine zr_calliF0 (As := []) (rest := []) (wr := (oa, .inl (cJ, 1, .inr (.inl f))) :: esW cI qe w (S * w) (S + 1) wl fk fv fp sk sv ats ens wn held spilled fed sealed runs size cn current key value many sum least greatest) C c_EM_thrown g_EL_EM_thrown h_EM_thrown ⟨Nat.le_of_ble_eq_true rfl, Nat.le_of_ble_eq_true rfl⟩ [10, 11, 12, 13, 14] [0, 1, 2, 3, 4, 5, 6, 7, 8, 9] rfl rfl rfl rfl (by decide) rfl rfl hw hA hl.1 rfl (Nat.le_of_ble_eq_true rfl) d_law_428 ⟨rfl, rfl⟩ hf0 (fun r3 u3 H locs hr3 hw => ?_)
    have hw : Wd D (tyL cI cZ cJ) (Aw s) s H locs ((oa, .inl (cJ, 1, .inr (.inl f))) :: (esW cI qe w (S * w) (S + 1) wl fk fv fp sk sv ats ens wn held spilled fed sealed runs size cn current key value many sum least greatest ++ emW cI cZ qm K V ord lf 1 w (S * w + w) fed r (fed - r * w) sealed cn current key value many sum least greatest)) := hw
    refine zr_top (y := 1) hr3 ?_
    refine lv_iload hx hb d_law_431 (lv_at hl 1 rfl) ?_
    refine lv_icmp_eq (tgt := 438) hx hb d_law_433 (by decide) (fun h433 => ?_) (fun h433 => ?_)
    · refine lv_iload hx hb d_law_438 (lv_at hl 1 rfl) ?_
      refine lv_if_ne (tgt := 455) hx hb d_law_440 (by decide) (fun h440 => ?_) (fun h440 => ?_)
      · refine lv_goto (tgt := 458) hx hb d_law_455 (by decide) ?_
        exact kk ls H locs (lv_sub hl [2, 3, 4, 5, 6] rfl) ⟨f, (fk, fv, fp, sk, sv, ats, ens, wn, held, spilled, runs, size), K, V, ord, lf, 1, fed, r, sealed, cn, current, key, value, many, sum, least, greatest, hw, hrep, hai, hord⟩
      · exact absurd h440 (by decide)
    · exact absurd rfl h433
  · obtain ⟨n, hn, hne⟩ := nI_of2 (x := xs (i + 1)) (M := 3) (n := 3) (by decide) (fun h => hn (Or.inl h)) (Int32.not_lt.mp (fun h => hn (Or.inr h)))
    have hE : LE p l s m meth c b L xs := ⟨C, hX, hbl, hTA, hL, hfl⟩
    obtain ⟨g1, g2, g3, g4, g5⟩ := hG
    have hG : Geo w S wl := ⟨g1, g2, g3, g4, g5⟩
    have hfd : fed ≤ 2064 := by have := hai.2.2; omega
    have hvv : (∀ k, k < runs → k < S + 1 ∧ ats k < 2 ^ 31 ∧ ens k < 2 ^ 31) ∧ runs ≤ 2001 ∧ spilled = r * w := by
      cases sealed with
      | false => obtain ⟨-, h1, h2⟩ := hrep.un; exact ⟨fun k hk => h2.vk g2 g3 hk, by have := h2.1.1; omega, by rw [← h1]; exact h2.1.2.2.2⟩
      | true =>
        obtain ⟨h1, h2⟩ := hrep.se
        refine ⟨fun k hk => ⟨(h2.vk g2 g3 hk).1, (h2.vk g2 g3 hk).2.1, (h2.vk g2 g3 hk).2.2.1⟩, by have := h2.nums.2.1; omega, ?_⟩
        obtain ⟨r9, pi, ⟨q0, q1, q2, q3, q4, q5⟩, -⟩ := h2
        have : r9 = r := by omega
        rw [q4, this]
    obtain ⟨hv, hru, hsp⟩ := hvv
    have hmo : S + 1 ≤ 2001 := by omega
    have h4 : n = 0 ∨ n = 1 ∨ n = 2 ∨ n = 3 := by omega
    rcases h4 with rfl | rfl | rfl | rfl
    · exact law_count_k hE hG hl hi hcs hw hrep hai hord hn hne hv hmo hru (lfF := fun _ => lf) (fun sz => c_EM_count_0) (fun r2 u h => by rw [h, if_pos rfl]) kk
    · exact law_count_k hE hG hl hi hcs hw hrep hai hord hn hne hv hmo hru (lfF := fun _ => lf) (fun sz => c_EM_count_1) (fun r2 u h => by rw [h, if_neg (by decide), if_pos rfl, hsp]) kk
    · exact law_count_k hE hG hl hi hcs hw hrep hai hord hn hne hv hmo hru (lfF := fun _ => lf) (fun sz => c_EM_count_2) (fun r2 u h => by rw [h, if_neg (by decide), if_neg (by decide), if_pos rfl]) kk
    · cases sealed with
      | false =>
        obtain ⟨-, h1, h2⟩ := hrep.un
        exact law_count_k hE hG hl hi hcs hw hrep hai hord hn hne hv hmo hru (lfF := fun _ => lf) (fun sz => c_EM_count_3f) (fun r2 u h => by rw [h, if_neg (by decide), if_neg (by decide), if_neg (by decide), cnt_law_u h2 g1, h1]) kk
      | true =>
        obtain ⟨h1, h2⟩ := hrep.se
        exact law_count_k hE hG hl hi hcs hw hrep hai hord hn hne hv hmo hru (lfF := fun u => u) (fun sz => c_EM_count_3t hfd (hord rfl) h2.nums.2.2.2.2.1 g1 g2) (fun r2 u h => by rw [h, if_neg (by decide), if_neg (by decide), if_neg (by decide), cnt_law_s h2 g1 g2 g3]) kk
set_option maxHeartbeats 4000000 in
set_option maxRecDepth 100000 in
theorem law_feedMany (E : LE p l s m meth c b L xs) (hG : Geo w S wl) (hl : lv_has ls 7 [(4, .int (nI i)), (0, .ref b), (1, .ref (qe 0)), (2, .ref (qm 0)), (3, .ref oa)]) (hi : i + 5 ≤ L) (hcs : cells + 1 ≤ 601024 ∧ slots + 6 ≤ 7292999) (hW : LW D cI cZ cJ s qe qm oa w S wl H locs) (kk : ∀ (ls : Array Slot) (H : Heap) (locs : List Loc), lv_has ls 7 [(4, .int (nI i)), (0, .ref b), (1, .ref (qe 0)), (2, .ref (qm 0)), (3, .ref oa)] → LW D cI cZ cJ s qe qm oa w S wl H locs → W p l e room_1 s m #[Value.ref b] below meth c H locs (cells + 1) (slots + 6) Q (F0 m 458 ls [])) : W p l e room_1 s m #[Value.ref b] below meth c H locs cells slots Q (F0 m 164 ls []) := by
  obtain ⟨C, hX, hbl, hTA, hL, hfl⟩ := E
  have hx := C.1.1
  have hb := C.1.2.1
  have hA : ∀ q : Nat, s.heap.size ≤ q → Aw s q := fun _ h => h
  have hbA : ¬ Aw s b := Nat.not_le.mpr hbl
  have hf0 : cells ≤ room_1.cells ∧ slots ≤ room_1.slots := ⟨by show cells ≤ 601024; omega, by show slots ≤ 7292999; omega⟩
  obtain ⟨f, ⟨fk, fv, fp, sk, sv, ats, ens, wn, held, spilled, runs, size⟩, K, V, ord, lf, thrown, fed, r, sealed, cn, current, key, value, many, sum, least, greatest, hw, hrep, hai, hord⟩ := hW
  have hw : Wd D (tyL cI cZ cJ) (Aw s) s H locs ((oa, .inl (cJ, 1, .inr (.inl f))) :: (esW cI qe w (S * w) (S + 1) wl fk fv fp sk sv ats ens wn held spilled fed sealed runs size cn current key value many sum least greatest ++ emW cI cZ qm K V ord lf thrown w (S * w + w) fed r (fed - r * w) sealed cn current key value many sum least greatest)) := hw
  by_cases hn : xs (i + 4) < 0 ∨ 200 < xs (i + 4)
  · refine lv_aload_n hx hb d_law_164 rfl (lv_at hl 2 rfl) ?_
    refine lv_aload_n hx hb d_law_165 rfl (lv_at hl 1 rfl) ?_
    refine lv_iload hx hb d_law_166 (lv_at hl 0 rfl) ?_
    refine lv_iconst (v := nI 1) hx hb d_law_168 (by decide) ?_
    refine zr_add hx hb d_law_169 ?_
    refine zr_sld C hX hbl hbA hw (by omega) (by omega) d_law_170 ?_
    refine lv_aload_n hx hb d_law_171 rfl (lv_at hl 1 rfl) ?_
    refine lv_iload hx hb d_law_172 (lv_at hl 0 rfl) ?_
    refine lv_iconst (v := nI 2) hx hb d_law_174 (by decide) ?_
    refine zr_add hx hb d_law_175 ?_
    refine zr_sld C hX hbl hbA hw (by omega) (by omega) d_law_176 ?_
    refine lv_aload_n hx hb d_law_177 rfl (lv_at hl 1 rfl) ?_
    refine lv_iload hx hb d_law_178 (lv_at hl 0 rfl) ?_
    refine lv_iconst (v := nI 3) hx hb d_law_180 (by decide) ?_
    refine zr_add hx hb d_law_181 ?_
    refine zr_sld C hX hbl hbA hw (by omega) (by omega) d_law_182 ?_
    refine lv_aload_n hx hb d_law_183 rfl (lv_at hl 1 rfl) ?_
    refine lv_iload hx hb d_law_184 (lv_at hl 0 rfl) ?_
    refine lv_iconst (v := nI 4) hx hb d_law_186 (by decide) ?_
    refine zr_add hx hb d_law_187 ?_
    refine zr_sld C hX hbl hbA hw (by omega) (by omega) d_law_188 ?_
    refine lv_aload_n hx hb d_law_189 rfl (lv_at hl 4 rfl) ?_
    have hTU : ∀ U : State, U.heap = H → s.WarmedH U.vm → TA U := fun U hU hWm => hTA.ext hWm (fun q cell h => by rw [hU, hw.2.2.2.2.1 q (Array.getElem?_eq_some_iff.mp h).1 (Nat.not_le.mpr (Array.getElem?_eq_some_iff.mp h).1)]; exact h)
    refine zr_callX (As := [.ref (qe 0), .int (xs (i + 1)), .int (xs (i + 2)), .int (xs (i + 3)), .int (xs (i + 4)), .ref oa]) (rest := []) (wr := emW cI cZ qm K V ord lf thrown w (S * w + w) fed r (fed - r * w) sealed cn current key value many sum least greatest) C (c_EL_feedMany_t hfl hn) x_EL_feedMany h_EL_feedMany ⟨Nat.le_of_ble_eq_true rfl, Nat.le_of_ble_eq_true rfl⟩ [0, 1, 2, 3, 4, 5, 6, 7, 8, 9] [10, 11, 12, 13, 14] rfl rfl rfl rfl (by decide) hw hTU hA hl.1 rfl (Nat.le_of_ble_eq_true rfl) d_law_190 ⟨by show cells + 1 ≤ 601024; omega, by show slots + 6 ≤ 7292999; omega⟩ (fun r1 u1 H locs hr1 hw => ?_)
    have hw : Wd D (tyL cI cZ cJ) (Aw s) s H locs ((oa, .inl (cJ, 1, .inr (.inl f))) :: (esW cI qe w (S * w) (S + 1) wl fk fv fp sk sv ats ens wn held spilled fed sealed runs size cn current key value many sum least greatest ++ emW cI cZ qm K V ord lf thrown w (S * w + w) fed r (fed - r * w) sealed cn current key value many sum least greatest)) := hw.sub [5, 6, 7, 8, 9, 10, 11, 12, 13, 14, 0, 1, 2, 3, 4] rfl rfl rfl
    refine zr_top (y := 1) hr1 ?_
    have hf0 : cells + 1 ≤ room_1.cells ∧ slots + 6 ≤ room_1.slots := hcs
    refine lv_istore (lv' := [(5, .int 1), (4, .int (nI i)), (0, .ref b), (1, .ref (qe 0)), (2, .ref (qm 0)), (3, .ref oa)]) hx hb d_law_193 hl (by decide) rfl (fun ls hl => ?_)
    refine lv_aload_n hx hb d_law_195 rfl (lv_at hl 4 rfl) ?_
    refine lv_aload_n hx hb d_law_196 rfl (lv_at hl 2 rfl) ?_
    refine lv_iload hx hb d_law_197 (lv_at hl 1 rfl) ?_
    refine lv_iconst (v := nI 1) hx hb d_law_199 (by decide) ?_
    refine zr_add hx hb d_law_200 ?_
    refine zr_sld C hX hbl hbA hw (by omega) (by omega) d_law_201 ?_
    refine lv_aload_n hx hb d_law_202 rfl (lv_at hl 2 rfl) ?_
    refine lv_iload hx hb d_law_203 (lv_at hl 1 rfl) ?_
    refine lv_iconst (v := nI 2) hx hb d_law_205 (by decide) ?_
    refine zr_add hx hb d_law_206 ?_
    refine zr_sld C hX hbl hbA hw (by omega) (by omega) d_law_207 ?_
    refine lv_aload_n hx hb d_law_208 rfl (lv_at hl 2 rfl) ?_
    refine lv_iload hx hb d_law_209 (lv_at hl 1 rfl) ?_
    refine lv_iconst (v := nI 3) hx hb d_law_211 (by decide) ?_
    refine zr_add hx hb d_law_212 ?_
    refine zr_sld C hX hbl hbA hw (by omega) (by omega) d_law_213 ?_
    refine lv_aload_n hx hb d_law_214 rfl (lv_at hl 2 rfl) ?_
    refine lv_iload hx hb d_law_215 (lv_at hl 1 rfl) ?_
    refine lv_iconst (v := nI 4) hx hb d_law_217 (by decide) ?_
    refine zr_add hx hb d_law_218 ?_
    refine zr_sld C hX hbl hbA hw (by omega) (by omega) d_law_219 ?_
    refine zr_calliF0 (As := [.int (xs (i + 1)), .int (xs (i + 2)), .int (xs (i + 3)), .int (xs (i + 4))]) (rest := []) (wr := (oa, .inl (cJ, 1, .inr (.inl f))) :: esW cI qe w (S * w) (S + 1) wl fk fv fp sk sv ats ens wn held spilled fed sealed runs size cn current key value many sum least greatest) C (c_EM_feedMany_t hn) g_EL_EM_feedMany h_EM_feedMany ⟨Nat.le_of_ble_eq_true rfl, Nat.le_of_ble_eq_true rfl⟩ [10, 11, 12, 13, 14] [0, 1, 2, 3, 4, 5, 6, 7, 8, 9] rfl rfl rfl rfl (by decide) rfl rfl hw hA hl.1 rfl (Nat.le_of_ble_eq_true rfl) d_law_220 ⟨rfl, rfl⟩ hf0 (fun r2 u2 H locs hr2 hw => ?_)
    have hw : Wd D (tyL cI cZ cJ) (Aw s) s H locs ((oa, .inl (cJ, 1, .inr (.inl f))) :: (esW cI qe w (S * w) (S + 1) wl fk fv fp sk sv ats ens wn held spilled fed sealed runs size cn current key value many sum least greatest ++ emW cI cZ qm K V ord lf 1 w (S * w + w) fed r (fed - r * w) sealed cn current key value many sum least greatest)) := hw
    refine lv_istore (lv' := [(6, .int r2), (5, .int 1), (4, .int (nI i)), (0, .ref b), (1, .ref (qe 0)), (2, .ref (qm 0)), (3, .ref oa)]) hx hb d_law_223 hl (by decide) rfl (fun ls hl => ?_)
    refine lv_aload_n hx hb d_law_225 rfl (lv_at hl 5 rfl) ?_
    refine zr_calliF0 (As := []) (rest := []) (wr := (oa, .inl (cJ, 1, .inr (.inl f))) :: esW cI qe w (S * w) (S + 1) wl fk fv fp sk sv ats ens wn held spilled fed sealed runs size cn current key value many sum least greatest) C c_EM_thrown g_EL_EM_thrown h_EM_thrown ⟨Nat.le_of_ble_eq_true rfl, Nat.le_of_ble_eq_true rfl⟩ [10, 11, 12, 13, 14] [0, 1, 2, 3, 4, 5, 6, 7, 8, 9] rfl rfl rfl rfl (by decide) rfl rfl hw hA hl.1 rfl (Nat.le_of_ble_eq_true rfl) d_law_226 ⟨rfl, rfl⟩ hf0 (fun r3 u3 H locs hr3 hw => ?_)
    have hw : Wd D (tyL cI cZ cJ) (Aw s) s H locs ((oa, .inl (cJ, 1, .inr (.inl f))) :: (esW cI qe w (S * w) (S + 1) wl fk fv fp sk sv ats ens wn held spilled fed sealed runs size cn current key value many sum least greatest ++ emW cI cZ qm K V ord lf 1 w (S * w + w) fed r (fed - r * w) sealed cn current key value many sum least greatest)) := hw
    refine zr_top (y := 1) hr3 ?_
    refine lv_iload hx hb d_law_229 (lv_at hl 1 rfl) ?_
    refine lv_icmp_eq (tgt := 236) hx hb d_law_231 (by decide) (fun h231 => ?_) (fun h231 => ?_)
    · refine lv_iload hx hb d_law_236 (lv_at hl 1 rfl) ?_
      refine lv_if_ne (tgt := 253) hx hb d_law_238 (by decide) (fun h238 => ?_) (fun h238 => ?_)
      · refine lv_goto (tgt := 458) hx hb d_law_253 (by decide) ?_
        exact kk ls H locs (lv_sub hl [2, 3, 4, 5, 6] rfl) ⟨f, (fk, fv, fp, sk, sv, ats, ens, wn, held, spilled, runs, size), K, V, ord, lf, 1, fed, r, sealed, cn, current, key, value, many, sum, least, greatest, hw, hrep, hai, hord⟩
      · exact absurd h238 (by decide)
    · exact absurd rfl h231
  · obtain ⟨n, hn, hne⟩ := nI_of2 (x := xs (i + 4)) (M := 200) (n := 200) (by decide) (fun h => hn (Or.inl h)) (Int32.not_lt.mp (fun h => hn (Or.inr h)))
    cases sealed with
    | true =>
      refine lv_aload_n hx hb d_law_164 rfl (lv_at hl 2 rfl) ?_
      refine lv_aload_n hx hb d_law_165 rfl (lv_at hl 1 rfl) ?_
      refine lv_iload hx hb d_law_166 (lv_at hl 0 rfl) ?_
      refine lv_iconst (v := nI 1) hx hb d_law_168 (by decide) ?_
      refine zr_add hx hb d_law_169 ?_
      refine zr_sld C hX hbl hbA hw (by omega) (by omega) d_law_170 ?_
      refine lv_aload_n hx hb d_law_171 rfl (lv_at hl 1 rfl) ?_
      refine lv_iload hx hb d_law_172 (lv_at hl 0 rfl) ?_
      refine lv_iconst (v := nI 2) hx hb d_law_174 (by decide) ?_
      refine zr_add hx hb d_law_175 ?_
      refine zr_sld C hX hbl hbA hw (by omega) (by omega) d_law_176 ?_
      refine lv_aload_n hx hb d_law_177 rfl (lv_at hl 1 rfl) ?_
      refine lv_iload hx hb d_law_178 (lv_at hl 0 rfl) ?_
      refine lv_iconst (v := nI 3) hx hb d_law_180 (by decide) ?_
      refine zr_add hx hb d_law_181 ?_
      refine zr_sld C hX hbl hbA hw (by omega) (by omega) d_law_182 ?_
      refine lv_aload_n hx hb d_law_183 rfl (lv_at hl 1 rfl) ?_
      refine lv_iload hx hb d_law_184 (lv_at hl 0 rfl) ?_
      refine lv_iconst (v := nI 4) hx hb d_law_186 (by decide) ?_
      refine zr_add hx hb d_law_187 ?_
      refine zr_sld C hX hbl hbA hw (by omega) (by omega) d_law_188 ?_
      refine zr_top (y := nI n) hne ?_
      refine lv_aload_n hx hb d_law_189 rfl (lv_at hl 4 rfl) ?_
      have hTU : ∀ U : State, U.heap = H → s.WarmedH U.vm → TA U := fun U hU hWm => hTA.ext hWm (fun q cell h => by rw [hU, hw.2.2.2.2.1 q (Array.getElem?_eq_some_iff.mp h).1 (Nat.not_le.mpr (Array.getElem?_eq_some_iff.mp h).1)]; exact h)
      refine zr_callX (As := [.ref (qe 0), .int (xs (i + 1)), .int (xs (i + 2)), .int (xs (i + 3)), .int (nI n), .ref oa]) (rest := []) (wr := emW cI cZ qm K V ord lf thrown w (S * w + w) fed r (fed - r * w) true cn current key value many sum least greatest) C (c_EL_feedMany_k (fun sz => c_ES_feedMany_s hn)) x_EL_feedMany h_EL_feedMany ⟨Nat.le_of_ble_eq_true rfl, Nat.le_of_ble_eq_true rfl⟩ [0, 1, 2, 3, 4, 5, 6, 7, 8, 9] [10, 11, 12, 13, 14] rfl rfl rfl rfl (by decide) hw hTU hA hl.1 rfl (Nat.le_of_ble_eq_true rfl) d_law_190 ⟨by show cells + 1 ≤ 601024; omega, by show slots + 6 ≤ 7292999; omega⟩ (fun r1 u1 H locs hr1 hw => ?_)
      obtain ⟨u1, v1⟩ := u1
      obtain ⟨hr1, hq1⟩ := hr1
      have hw : Wd D (tyL cI cZ cJ) (Aw s) s H locs ((oa, .inl (cJ, 1, .inr (.inl (vp_updL f 0 v1.toInt64)))) :: (esW cI qe w (S * w) (S + 1) wl fk fv fp sk sv ats ens wn held spilled fed true runs size cn current key value many sum least greatest ++ emW cI cZ qm K V ord lf thrown w (S * w + w) fed r (fed - r * w) true cn current key value many sum least greatest)) := hw.sub [5, 6, 7, 8, 9, 10, 11, 12, 13, 14, 0, 1, 2, 3, 4] rfl rfl rfl
      refine zr_top (y := 0) hr1 ?_
      have hf0 : cells + 1 ≤ room_1.cells ∧ slots + 6 ≤ room_1.slots := hcs
      refine lv_istore (lv' := [(5, .int 0), (4, .int (nI i)), (0, .ref b), (1, .ref (qe 0)), (2, .ref (qm 0)), (3, .ref oa)]) hx hb d_law_193 hl (by decide) rfl (fun ls hl => ?_)
      refine lv_aload_n hx hb d_law_195 rfl (lv_at hl 4 rfl) ?_
      refine lv_aload_n hx hb d_law_196 rfl (lv_at hl 2 rfl) ?_
      refine lv_iload hx hb d_law_197 (lv_at hl 1 rfl) ?_
      refine lv_iconst (v := nI 1) hx hb d_law_199 (by decide) ?_
      refine zr_add hx hb d_law_200 ?_
      refine zr_sld C hX hbl hbA hw (by omega) (by omega) d_law_201 ?_
      refine lv_aload_n hx hb d_law_202 rfl (lv_at hl 2 rfl) ?_
      refine lv_iload hx hb d_law_203 (lv_at hl 1 rfl) ?_
      refine lv_iconst (v := nI 2) hx hb d_law_205 (by decide) ?_
      refine zr_add hx hb d_law_206 ?_
      refine zr_sld C hX hbl hbA hw (by omega) (by omega) d_law_207 ?_
      refine lv_aload_n hx hb d_law_208 rfl (lv_at hl 2 rfl) ?_
      refine lv_iload hx hb d_law_209 (lv_at hl 1 rfl) ?_
      refine lv_iconst (v := nI 3) hx hb d_law_211 (by decide) ?_
      refine zr_add hx hb d_law_212 ?_
      refine zr_sld C hX hbl hbA hw (by omega) (by omega) d_law_213 ?_
      refine lv_aload_n hx hb d_law_214 rfl (lv_at hl 2 rfl) ?_
      refine lv_iload hx hb d_law_215 (lv_at hl 1 rfl) ?_
      refine lv_iconst (v := nI 4) hx hb d_law_217 (by decide) ?_
      refine zr_add hx hb d_law_218 ?_
      refine zr_sld C hX hbl hbA hw (by omega) (by omega) d_law_219 ?_
      refine zr_top (y := nI n) hne ?_
      refine zr_calliF0 (As := [.int (xs (i + 1)), .int (xs (i + 2)), .int (xs (i + 3)), .int (nI n)]) (rest := []) (wr := (oa, .inl (cJ, 1, .inr (.inl (vp_updL f 0 v1.toInt64)))) :: esW cI qe w (S * w) (S + 1) wl fk fv fp sk sv ats ens wn held spilled fed true runs size cn current key value many sum least greatest) C (c_EM_feedMany_s hn) g_EL_EM_feedMany h_EM_feedMany ⟨Nat.le_of_ble_eq_true rfl, Nat.le_of_ble_eq_true rfl⟩ [10, 11, 12, 13, 14] [0, 1, 2, 3, 4, 5, 6, 7, 8, 9] rfl rfl rfl rfl (by decide) rfl rfl hw hA hl.1 rfl (Nat.le_of_ble_eq_true rfl) d_law_220 ⟨rfl, rfl⟩ hf0 (fun r2 u2 H locs hr2 hw => ?_)
      have hw : Wd D (tyL cI cZ cJ) (Aw s) s H locs ((oa, .inl (cJ, 1, .inr (.inl (vp_updL f 0 v1.toInt64)))) :: (esW cI qe w (S * w) (S + 1) wl fk fv fp sk sv ats ens wn held spilled fed true runs size cn current key value many sum least greatest ++ emW cI cZ qm K V ord lf 0 w (S * w + w) fed r (fed - r * w) true cn current key value many sum least greatest)) := hw
      refine lv_istore (lv' := [(6, .int r2), (5, .int 0), (4, .int (nI i)), (0, .ref b), (1, .ref (qe 0)), (2, .ref (qm 0)), (3, .ref oa)]) hx hb d_law_223 hl (by decide) rfl (fun ls hl => ?_)
      refine lv_aload_n hx hb d_law_225 rfl (lv_at hl 5 rfl) ?_
      refine zr_calliF0 (As := []) (rest := []) (wr := (oa, .inl (cJ, 1, .inr (.inl (vp_updL f 0 v1.toInt64)))) :: esW cI qe w (S * w) (S + 1) wl fk fv fp sk sv ats ens wn held spilled fed true runs size cn current key value many sum least greatest) C c_EM_thrown g_EL_EM_thrown h_EM_thrown ⟨Nat.le_of_ble_eq_true rfl, Nat.le_of_ble_eq_true rfl⟩ [10, 11, 12, 13, 14] [0, 1, 2, 3, 4, 5, 6, 7, 8, 9] rfl rfl rfl rfl (by decide) rfl rfl hw hA hl.1 rfl (Nat.le_of_ble_eq_true rfl) d_law_226 ⟨rfl, rfl⟩ hf0 (fun r3 u3 H locs hr3 hw => ?_)
      have hw : Wd D (tyL cI cZ cJ) (Aw s) s H locs ((oa, .inl (cJ, 1, .inr (.inl (vp_updL f 0 v1.toInt64)))) :: (esW cI qe w (S * w) (S + 1) wl fk fv fp sk sv ats ens wn held spilled fed true runs size cn current key value many sum least greatest ++ emW cI cZ qm K V ord lf 0 w (S * w + w) fed r (fed - r * w) true cn current key value many sum least greatest)) := hw
      refine zr_top (y := 0) hr3 ?_
      refine lv_iload hx hb d_law_229 (lv_at hl 1 rfl) ?_
      refine lv_icmp_eq (tgt := 236) hx hb d_law_231 (by decide) (fun h231 => ?_) (fun h231 => ?_)
      · refine lv_iload hx hb d_law_236 (lv_at hl 1 rfl) ?_
        refine lv_if_ne (tgt := 253) hx hb d_law_238 (by decide) (fun h238 => ?_) (fun h238 => ?_)
        · exact absurd rfl h238
        · refine lv_aload_n hx hb d_law_241 rfl (lv_at hl 6 rfl) ?_
          refine lv_iconst (v := nI 0) hx hb d_law_242 (by decide) ?_
          refine zr_lld C hw 0 2 rfl rfl (Nat.le_of_ble_eq_true rfl) (by decide) (v := v1.toInt64) rfl d_law_243 ?_
          refine lv_iload hx hb d_law_244 (lv_at hl 0 rfl) ?_
          refine lv_i2l (v := v1.toInt64) hx hb d_law_246 (by have hv : v1 = r2 := (hq1.trans hr2.symm); rw [hv]) ?_
          refine zr_lcmp0 hx hb d_law_247 ?_
          refine lv_if_eq (tgt := 253) hx hb d_law_248 (by decide) (fun h248 => ?_) (fun h248 => ?_)
          · refine lv_goto (tgt := 458) hx hb d_law_253 (by decide) ?_
            exact kk ls H locs (lv_sub hl [2, 3, 4, 5, 6] rfl) ⟨_, (fk, fv, fp, sk, sv, ats, ens, wn, held, spilled, runs, size), K, V, ord, lf, 0, fed, r, true, cn, current, key, value, many, sum, least, greatest, hw, hrep, hai, hord⟩
          · exact absurd rfl h248
      · exact absurd rfl h231
    | false =>
      obtain ⟨h0, -, -⟩ := hrep.un
      subst h0
      refine lv_aload_n hx hb d_law_164 rfl (lv_at hl 2 rfl) ?_
      refine lv_aload_n hx hb d_law_165 rfl (lv_at hl 1 rfl) ?_
      refine lv_iload hx hb d_law_166 (lv_at hl 0 rfl) ?_
      refine lv_iconst (v := nI 1) hx hb d_law_168 (by decide) ?_
      refine zr_add hx hb d_law_169 ?_
      refine zr_sld C hX hbl hbA hw (by omega) (by omega) d_law_170 ?_
      refine lv_aload_n hx hb d_law_171 rfl (lv_at hl 1 rfl) ?_
      refine lv_iload hx hb d_law_172 (lv_at hl 0 rfl) ?_
      refine lv_iconst (v := nI 2) hx hb d_law_174 (by decide) ?_
      refine zr_add hx hb d_law_175 ?_
      refine zr_sld C hX hbl hbA hw (by omega) (by omega) d_law_176 ?_
      refine lv_aload_n hx hb d_law_177 rfl (lv_at hl 1 rfl) ?_
      refine lv_iload hx hb d_law_178 (lv_at hl 0 rfl) ?_
      refine lv_iconst (v := nI 3) hx hb d_law_180 (by decide) ?_
      refine zr_add hx hb d_law_181 ?_
      refine zr_sld C hX hbl hbA hw (by omega) (by omega) d_law_182 ?_
      refine lv_aload_n hx hb d_law_183 rfl (lv_at hl 1 rfl) ?_
      refine lv_iload hx hb d_law_184 (lv_at hl 0 rfl) ?_
      refine lv_iconst (v := nI 4) hx hb d_law_186 (by decide) ?_
      refine zr_add hx hb d_law_187 ?_
      refine zr_sld C hX hbl hbA hw (by omega) (by omega) d_law_188 ?_
      refine zr_top (y := nI n) hne ?_
      refine lv_aload_n hx hb d_law_189 rfl (lv_at hl 4 rfl) ?_
      have hTU : ∀ U : State, U.heap = H → s.WarmedH U.vm → TA U := fun U hU hWm => hTA.ext hWm (fun q cell h => by rw [hU, hw.2.2.2.2.1 q (Array.getElem?_eq_some_iff.mp h).1 (Nat.not_le.mpr (Array.getElem?_eq_some_iff.mp h).1)]; exact h)
      refine zr_callX (As := [.ref (qe 0), .int (xs (i + 1)), .int (xs (i + 2)), .int (xs (i + 3)), .int (nI n), .ref oa]) (rest := []) (wr := emW cI cZ qm K V ord lf thrown w (S * w + w) fed r (fed - r * w) false 0 current key value many sum least greatest) C (c_EL_feedMany_k (fun sz => c_ES_feedMany_u hG hn hrep)) x_EL_feedMany h_EL_feedMany ⟨Nat.le_of_ble_eq_true rfl, Nat.le_of_ble_eq_true rfl⟩ [0, 1, 2, 3, 4, 5, 6, 7, 8, 9] [10, 11, 12, 13, 14] rfl rfl rfl rfl (by decide) hw hTU hA hl.1 rfl (Nat.le_of_ble_eq_true rfl) d_law_190 ⟨by show cells + 1 ≤ 601024; omega, by show slots + 6 ≤ 7292999; omega⟩ (fun r1 u1 H locs hr1 hw => ?_)
      obtain ⟨u1, v1⟩ := u1
      obtain ⟨fk, fv, fp, sk, sv, ats, ens, wn, held, spilled, runs, size⟩ := u1
      obtain ⟨hr1, hq1⟩ := hr1
      have hw : Wd D (tyL cI cZ cJ) (Aw s) s H locs ((oa, .inl (cJ, 1, .inr (.inl (vp_updL f 0 v1.toInt64)))) :: (esW cI qe w (S * w) (S + 1) wl fk fv fp sk sv ats ens wn held spilled (fed + (min n (S * w + w - fed))) false runs size 0 current key value many sum least greatest ++ emW cI cZ qm K V ord lf thrown w (S * w + w) fed r (fed - r * w) false 0 current key value many sum least greatest)) := hw.sub [5, 6, 7, 8, 9, 10, 11, 12, 13, 14, 0, 1, 2, 3, 4] rfl rfl rfl
      refine zr_top (y := 0) hr1 ?_
      have hf0 : cells + 1 ≤ room_1.cells ∧ slots + 6 ≤ room_1.slots := hcs
      refine lv_istore (lv' := [(5, .int 0), (4, .int (nI i)), (0, .ref b), (1, .ref (qe 0)), (2, .ref (qm 0)), (3, .ref oa)]) hx hb d_law_193 hl (by decide) rfl (fun ls hl => ?_)
      refine lv_aload_n hx hb d_law_195 rfl (lv_at hl 4 rfl) ?_
      refine lv_aload_n hx hb d_law_196 rfl (lv_at hl 2 rfl) ?_
      refine lv_iload hx hb d_law_197 (lv_at hl 1 rfl) ?_
      refine lv_iconst (v := nI 1) hx hb d_law_199 (by decide) ?_
      refine zr_add hx hb d_law_200 ?_
      refine zr_sld C hX hbl hbA hw (by omega) (by omega) d_law_201 ?_
      refine lv_aload_n hx hb d_law_202 rfl (lv_at hl 2 rfl) ?_
      refine lv_iload hx hb d_law_203 (lv_at hl 1 rfl) ?_
      refine lv_iconst (v := nI 2) hx hb d_law_205 (by decide) ?_
      refine zr_add hx hb d_law_206 ?_
      refine zr_sld C hX hbl hbA hw (by omega) (by omega) d_law_207 ?_
      refine lv_aload_n hx hb d_law_208 rfl (lv_at hl 2 rfl) ?_
      refine lv_iload hx hb d_law_209 (lv_at hl 1 rfl) ?_
      refine lv_iconst (v := nI 3) hx hb d_law_211 (by decide) ?_
      refine zr_add hx hb d_law_212 ?_
      refine zr_sld C hX hbl hbA hw (by omega) (by omega) d_law_213 ?_
      refine lv_aload_n hx hb d_law_214 rfl (lv_at hl 2 rfl) ?_
      refine lv_iload hx hb d_law_215 (lv_at hl 1 rfl) ?_
      refine lv_iconst (v := nI 4) hx hb d_law_217 (by decide) ?_
      refine zr_add hx hb d_law_218 ?_
      refine zr_sld C hX hbl hbA hw (by omega) (by omega) d_law_219 ?_
      refine zr_top (y := nI n) hne ?_
      refine zr_calliF0 (As := [.int (xs (i + 1)), .int (xs (i + 2)), .int (xs (i + 3)), .int (nI n)]) (rest := []) (wr := (oa, .inl (cJ, 1, .inr (.inl (vp_updL f 0 v1.toInt64)))) :: esW cI qe w (S * w) (S + 1) wl fk fv fp sk sv ats ens wn held spilled (fed + (min n (S * w + w - fed))) false runs size 0 current key value many sum least greatest) C (c_EM_feedMany_u hG hn hai) g_EL_EM_feedMany h_EM_feedMany ⟨Nat.le_of_ble_eq_true rfl, Nat.le_of_ble_eq_true rfl⟩ [10, 11, 12, 13, 14] [0, 1, 2, 3, 4, 5, 6, 7, 8, 9] rfl rfl rfl rfl (by decide) rfl rfl hw hA hl.1 rfl (Nat.le_of_ble_eq_true rfl) d_law_220 ⟨rfl, rfl⟩ hf0 (fun r2 u2 H locs hr2 hw => ?_)
      have hw : Wd D (tyL cI cZ cJ) (Aw s) s H locs ((oa, .inl (cJ, 1, .inr (.inl (vp_updL f 0 v1.toInt64)))) :: (esW cI qe w (S * w) (S + 1) wl fk fv fp sk sv ats ens wn held spilled (fed + (min n (S * w + w - fed))) false runs size 0 current key value many sum least greatest ++ emW cI cZ qm (fmA K fed (fun k => xs (i + 1) + nI k * xs (i + 2)) (min n (S * w + w - fed))) (fmA V fed (fun k => xs (i + 3) + nI k) (min n (S * w + w - fed))) ord lf 0 w (S * w + w) (fed + (min n (S * w + w - fed))) (fmR w fed r (min n (S * w + w - fed))) (fed + (min n (S * w + w - fed)) - fmR w fed r (min n (S * w + w - fed)) * w) false 0 current key value many sum least greatest)) := hw
      refine lv_istore (lv' := [(6, .int r2), (5, .int 0), (4, .int (nI i)), (0, .ref b), (1, .ref (qe 0)), (2, .ref (qm 0)), (3, .ref oa)]) hx hb d_law_223 hl (by decide) rfl (fun ls hl => ?_)
      refine lv_aload_n hx hb d_law_225 rfl (lv_at hl 5 rfl) ?_
      refine zr_calliF0 (As := []) (rest := []) (wr := (oa, .inl (cJ, 1, .inr (.inl (vp_updL f 0 v1.toInt64)))) :: esW cI qe w (S * w) (S + 1) wl fk fv fp sk sv ats ens wn held spilled (fed + (min n (S * w + w - fed))) false runs size 0 current key value many sum least greatest) C c_EM_thrown g_EL_EM_thrown h_EM_thrown ⟨Nat.le_of_ble_eq_true rfl, Nat.le_of_ble_eq_true rfl⟩ [10, 11, 12, 13, 14] [0, 1, 2, 3, 4, 5, 6, 7, 8, 9] rfl rfl rfl rfl (by decide) rfl rfl hw hA hl.1 rfl (Nat.le_of_ble_eq_true rfl) d_law_226 ⟨rfl, rfl⟩ hf0 (fun r3 u3 H locs hr3 hw => ?_)
      have hw : Wd D (tyL cI cZ cJ) (Aw s) s H locs ((oa, .inl (cJ, 1, .inr (.inl (vp_updL f 0 v1.toInt64)))) :: (esW cI qe w (S * w) (S + 1) wl fk fv fp sk sv ats ens wn held spilled (fed + (min n (S * w + w - fed))) false runs size 0 current key value many sum least greatest ++ emW cI cZ qm (fmA K fed (fun k => xs (i + 1) + nI k * xs (i + 2)) (min n (S * w + w - fed))) (fmA V fed (fun k => xs (i + 3) + nI k) (min n (S * w + w - fed))) ord lf 0 w (S * w + w) (fed + (min n (S * w + w - fed))) (fmR w fed r (min n (S * w + w - fed))) (fed + (min n (S * w + w - fed)) - fmR w fed r (min n (S * w + w - fed)) * w) false 0 current key value many sum least greatest)) := hw
      refine zr_top (y := 0) hr3 ?_
      refine lv_iload hx hb d_law_229 (lv_at hl 1 rfl) ?_
      refine lv_icmp_eq (tgt := 236) hx hb d_law_231 (by decide) (fun h231 => ?_) (fun h231 => ?_)
      · refine lv_iload hx hb d_law_236 (lv_at hl 1 rfl) ?_
        refine lv_if_ne (tgt := 253) hx hb d_law_238 (by decide) (fun h238 => ?_) (fun h238 => ?_)
        · exact absurd rfl h238
        · refine lv_aload_n hx hb d_law_241 rfl (lv_at hl 6 rfl) ?_
          refine lv_iconst (v := nI 0) hx hb d_law_242 (by decide) ?_
          refine zr_lld C hw 0 2 rfl rfl (Nat.le_of_ble_eq_true rfl) (by decide) (v := v1.toInt64) rfl d_law_243 ?_
          refine lv_iload hx hb d_law_244 (lv_at hl 0 rfl) ?_
          refine lv_i2l (v := v1.toInt64) hx hb d_law_246 (by have hv : v1 = r2 := (hq1.1.trans hr2.symm); rw [hv]) ?_
          refine zr_lcmp0 hx hb d_law_247 ?_
          refine lv_if_eq (tgt := 253) hx hb d_law_248 (by decide) (fun h248 => ?_) (fun h248 => ?_)
          · refine lv_goto (tgt := 458) hx hb d_law_253 (by decide) ?_
            exact kk ls H locs (lv_sub hl [2, 3, 4, 5, 6] rfl) ⟨_, (fk, fv, fp, sk, sv, ats, ens, wn, held, spilled, runs, size), fmA K fed (fun k => xs (i + 1) + nI k * xs (i + 2)) (min n (S * w + w - fed)), fmA V fed (fun k => xs (i + 3) + nI k) (min n (S * w + w - fed)), ord, lf, 0, fed + (min n (S * w + w - fed)), fmR w fed r (min n (S * w + w - fed)), false, 0, current, key, value, many, sum, least, greatest, hw, hq1.2, (hai.fm hG.1 _ (by have := hai.2.2; omega)), (fun h => by cases h)⟩
          · exact absurd rfl h248
      · exact absurd rfl h231
end LAW2
end
section
/-! ===== the law whole: the frame of kit/laws/SKELETON (with the launch's flags handed through), the loop, the start (printed by gen/lw3.py) ===== -/
/-! THE CLAIM OUT OF ONE WALK OF THE LAW'S BODY. Your part is whole_start (and what it stands on); all else here is the same for every law, but numbers. -/
def lw_P (b : Addr) (xs : List Int32) (args : Array Value) (s : State) : Prop := args = #[.ref b] ∧ s.IntsAt b xs ∧ xs.length ≤ 2562 ∧ (Jvm.Cond.and given_1 narrow_1).before args s = true
def lw_Q (_ : Array Value) (s : State) (o : Outcome) (t : State) : Prop := o = .returned (some (.int 1)) ∧ Framed s o t [] 601024 7292999
def lw_Z (below : List Frame) (a : Array Value) (s : State) : State → Prop := fun t => ∃ o, t.status = .running ∧ Ended t below o ∧ lw_Q a s o t
/-- the law's own end, with 1 on the stack, nothing written that was there before, its room as the claim has it -/
theorem lw_ret {p : Program} {l : Launch} {e : Env} {s : State} {m : MethodId} {below : List Frame} {meth : Method} {c : Code} {b : Nat} (hx : p.tables.exec = Jvm.exec) (hb : c.code = code) (hr : meth.sig.returnType = ret) (hlocks : meth.locks = false) {pc : Nat} {H : Heap} {ls : Array Slot} (hdg : decode code pc = .ok (.ireturn, 1)) : W p l e room_1 s m #[Value.ref b] below meth c H [] 601024 7292999 (lw_Z below #[Value.ref b] s) (F0 m pc ls [.int 1]) := by
  intro T hT X
  obtain ⟨fs, hret, hrun, hended, hW, hframe⟩ := X.leave (v := some (.int 1)) (hlocks := hlocks) (fun h => by rw [hr] at h; cases h)
  have hmeth' : T.vm.method? m = some meth := X.method'
  refine ⟨T.setFrames fs, ?_, .returned (some (.int 1)), hrun, hended, rfl, ⟨_, rfl⟩, hW, hframe⟩
  jvm_step X.here [X.here.top, hx, hb, hdg, hmeth', hr, ret, narrow_b1]
  (try refine ⟨rfl, ?_⟩); (try refine ⟨rfl, ?_⟩)
  first | (intro acts; rw [hret _ acts rfl rfl rfl]) | rw [hret _ _ rfl rfl rfl]
  exact Steps.refl _
/-- what holds at the law's entry: the machine, the code, the tables' words (any of lw_tbl by 'hts w (by decide +kernel)'), the script of L ints xs at the cell b, what the Statement gives of the start (any of its parts by flat_of_before) -/
def lw_At (p : Program) (s : State) (m : MethodId) (meth : Method) (c : Code) (b L : Nat) (xs : Nat → Int32) : Prop :=
  p.tables.exec = Jvm.exec ∧ c.code = code ∧ meth.sig.returnType = ret ∧ c.maxLocals = 7 ∧ s.vm.findClass R_law = some m.cls ∧ (∀ w ∈ lw_tbl, w.before #[Value.ref b] s = true) ∧ va_X b L xs s s.heap ∧ b < s.heap.size ∧ meth.locks = false ∧ (Jvm.Cond.and given_1 narrow_1).before #[Value.ref b] s = true
section ZS
variable {p : Program} {l : Launch} {e : Env} {R : Room} {s : State} {m : MethodId} {args : Array Value} {below : List Frame} {meth : Method} {c : Code} {H : Heap} {locs : List Loc} {cells slots : Nat} {Q : State → Prop}
variable {cc : ByteArray} {pc nL : Nat} {rt : Option FieldType} {ls : Array Slot} {rest : List Value} {D : va_G} {A : Nat → Prop} {tys : List (ClassId × FieldType)} {W0 : va_W} {own : String}
theorem gd_S {idx : Nat} {y : MethodName} {b : ByteArray} {n : Nat} {r : Option FieldType} (h : ∀ w ∈ ([.methodLink own idx y, .static y, .initialized own, .code y b n r] : List Cond), w ∈ tb) : GoodIn tb (wsS own idx y (wd y b n r)) := by
  refine tb_in fun w hw => ?_
  rcases List.mem_append.mp hw with hw | hw
  · exact h w (List.mem_append_left [Cond.code y b n r] hw)
  · rcases List.mem_cons.mp hw with rfl | hw
    · exact h _ (by simp)
    · exact hw
theorem g_cell : GoodIn tb (wsS R_law 22 y_EL_cell (wd y_EL_cell b_EL_cell 2 (some .int))) := gd_S (by decide +kernel)
theorem h_cell : y_EL_cell.cls ≠ "java/lang/invoke/MethodHandle" ∧ y_EL_cell.cls ≠ "java/lang/invoke/VarHandle" ∧ (parseMethodDescriptor y_EL_cell.desc).map (fun d => d.parameters.length) = some 2 := by decide +kernel
/-- the law's call of its own cell -/
theorem zr_cell (C : Cx p m meth c cc nL rt s args R_law) {b L k : Nat} {xs : Nat → Int32} (hX : va_X b L xs s s.heap) (hbl : b < s.heap.size) (hbA : ¬ A b) (hw : Wd D tys A s H locs W0) (hls : ls.size = nL) (hL : L < 2 ^ 31) (hk : k < 2 ^ 31) (hro : (rest.map fun v => v.category).sum ≤ 8) (hfr : 1 ≤ R.frames ∧ 21 ≤ R.locals) (hf : cells ≤ R.cells ∧ slots ≤ R.slots) (hdg : decode cc pc = .ok (.invokestatic 22, 3))
    (kk : W p l e R s m args below meth c H locs cells slots Q (F0 m (pc + 3) ls (.int (if k < L then xs k else 0) :: rest))) : W p l e R s m args below meth c H locs cells slots Q (F0 m pc ls (.int (nI k) :: .ref b :: rest)) := by
  have hS := hw.2.2.2
  have hX1 : va_X b L xs s H := hX.kept (hS.2.1 b hbl hbA)
  refine vp_callSi (W.runS (As := [.ref b, .int (nI k)]) (rest := rest) C.1 (c_EL_cell (xs := xs) hL hk) (cwS 2 C.1.2.2.2.2 g_cell rfl rfl rfl ⟨rfl, h_cell⟩ ⟨by show 0 + 1 ≤ _; omega, by show 8 + (2 + 11) + 0 ≤ _; omega⟩) ⟨fun a U g mk q => ?_, fun U hU hW => ⟨rfl, ?_, ?_⟩⟩ rfl rfl hls rfl (lv_room hro) hdg hf) (fun r hr => by rw [hr]; exact kk)
  · obtain ⟨q0, q1, q2⟩ := q
    exact ⟨q0, va_X.moved (u := U) (U := U.calling g mk a) (Vm.Alike.refl U.vm) q1, q2⟩
  · rw [hU]; exact hX1.moved hW.alike
  · rw [hU]; exact Nat.lt_of_lt_of_le hbl hS.1
/-- a constructor's call; the callee's world Wc lies at the places isC of the caller's -/
theorem zr_ctorF {S : Type} {post : S → Prop} {W1 : S → va_W} {y : MethodName} {b : ByteArray} {n : Nat} {rm : Room} {a : Nat} {As st0 : List Value} {Wc wr : va_W} (C : Cx p m meth c cc nL rt s args own) (hM : MetV l y b n rm D tys (.ref a :: As) Wc H.size post W1) {idx : Nat} (hg : ∀ w ∈ ([.methodLink own idx y, .instanceMethod y, .initialized y.cls, .code y b n none] : List Cond), w ∈ tb) (hy1 : y.name = "<init>")
    (hd : y.cls ≠ "java/lang/invoke/MethodHandle" ∧ y.cls ≠ "java/lang/invoke/VarHandle" ∧ (parseMethodDescriptor y.desc).map (fun d => d.parameters.length) = some As.length) (hrm : rm.frames + 1 ≤ R.frames ∧ 8 + (n + 11) + rm.locals ≤ R.locals)
    (isC isR : List Nat) (hC : isC.map (fun i => W0[i]?) = Wc.map some) (hR : isR.map (fun i => W0[i]?) = wr.map some) (hnC : va_nd isC = true) (hn : va_nd isR = true) (hdis : ∀ i ∈ isR, i ∉ isC) (hw : Wd D tys A s H locs W0) (hA : ∀ q : Nat, s.heap.size ≤ q → A q) (hls : ls.size = nL) (hst : st0 = As.reverse ++ .ref a :: rest) (hro : (rest.map fun v => v.category).sum ≤ 8) (hdg : decode cc pc = .ok (.invokespecial idx, 3)) (hf : cells + rm.cells ≤ R.cells ∧ slots + rm.slots ≤ R.slots)
    (kk : ∀ (u : S) (H : Heap) (locs : List Loc), post u → Wd D tys A s H locs (wr ++ W1 u) → W p l e R s m args below meth c H locs (cells + rm.cells) (slots + rm.slots) Q (F0 m (pc + 3) ls rest)) : W p l e R s m args below meth c H locs cells slots Q (F0 m pc ls st0) := by
  subst hst
  obtain ⟨hK, hP, hD, hS⟩ := hw
  have hPc : va_P D classes Wc H := hP.sub isC (zr_get hC)
  have hDc := hD.sub isC hnC hC
  have hFc := va_free hD hS hA isC hC
  have hts := C.1.2.2.2.2
  have hG : GoodIn tb (wd y b n none) := tb_in fun w hw => by
    rcases List.mem_cons.mp hw with rfl | hw
    · exact hg _ (by simp)
    · exact hw
  refine va_callv (va_runI C.1 hM (cwI As.length hts hG rfl rfl rfl (hts _ (hg _ (by simp))) (hts (.methodLink own idx y) (hg _ (by simp))) (hts _ (hg _ (by simp))) hy1 hd hrm) ⟨cPre_blind, fun U hU hW => ⟨rfl, by rw [hU], by rw [hU]; exact hPc, va_K.moved hW.alike hK, hDc.weaken (fun _ _ _ _ => trivial)⟩⟩ rfl rfl hls rfl (lv_room hro) hdg hf) hS (fun q _ h => hFc q h) hFc (fun u t H1 locs1 ht hvm hpo hB hz1 hk1 hS1 => ?_)
  obtain ⟨hP1, hK1, hD1⟩ := hB
  rw [ht] at hP1
  obtain ⟨hP2, hD2⟩ := va_join hP hD isC isR hC hR hn hdis hk1 hFc hP1 hD1
  exact kk u H1 locs1 hpo ⟨hK, hP2, hD2, hS1⟩
end ZS
theorem k_ES_init : ∀ w ∈ ([.methodLink R_law 28 y_ES_init, .instanceMethod y_ES_init, .initialized y_ES_init.cls, .code y_ES_init b_ES_init 6 none] : List Cond), w ∈ tb := by decide +kernel
theorem h_ES_init : y_ES_init.cls ≠ "java/lang/invoke/MethodHandle" ∧ y_ES_init.cls ≠ "java/lang/invoke/VarHandle" ∧ (parseMethodDescriptor y_ES_init.desc).map (fun d => d.parameters.length) = some 2 := by decide +kernel
theorem bl_ES : ∀ j, j < 24 → defaultValue (t_ES j) = vp_V esBl j
  | 0, _ => rfl
  | 1, _ => rfl
  | 2, _ => rfl
  | 3, _ => rfl
  | 4, _ => rfl
  | 5, _ => rfl
  | 6, _ => rfl
  | 7, _ => rfl
  | 8, _ => rfl
  | 9, _ => rfl
  | 10, _ => rfl
  | 11, _ => rfl
  | 12, _ => rfl
  | 13, _ => rfl
  | 14, _ => rfl
  | 15, _ => rfl
  | 16, _ => rfl
  | 17, _ => rfl
  | 18, _ => rfl
  | 19, _ => rfl
  | 20, _ => rfl
  | 21, _ => rfl
  | 22, _ => rfl
  | 23, _ => rfl
  | k + 24, h => absurd h (by omega)
theorem n1_ES : Cond.classLink R_law 8 R_ES ∈ tb ∧ Cond.instantiable R_ES 24 ∈ tb ∧ Cond.initialized R_ES ∈ tb := by decide +kernel
theorem k_EM_init : ∀ w ∈ ([.methodLink R_law 33 y_EM_init, .instanceMethod y_EM_init, .initialized y_EM_init.cls, .code y_EM_init b_EM_init 5 none] : List Cond), w ∈ tb := by decide +kernel
theorem h_EM_init : y_EM_init.cls ≠ "java/lang/invoke/MethodHandle" ∧ y_EM_init.cls ≠ "java/lang/invoke/VarHandle" ∧ (parseMethodDescriptor y_EM_init.desc).map (fun d => d.parameters.length) = some 2 := by decide +kernel
theorem bl_EM : ∀ j, j < 19 → defaultValue (t_EM j) = vp_V emBl j
  | 0, _ => rfl
  | 1, _ => rfl
  | 2, _ => rfl
  | 3, _ => rfl
  | 4, _ => rfl
  | 5, _ => rfl
  | 6, _ => rfl
  | 7, _ => rfl
  | 8, _ => rfl
  | 9, _ => rfl
  | 10, _ => rfl
  | 11, _ => rfl
  | 12, _ => rfl
  | 13, _ => rfl
  | 14, _ => rfl
  | 15, _ => rfl
  | 16, _ => rfl
  | 17, _ => rfl
  | 18, _ => rfl
  | k + 19, h => absurd h (by omega)
theorem n1_EM : Cond.classLink R_law 31 R_EM ∈ tb ∧ Cond.instantiable R_EM 19 ∈ tb ∧ Cond.initialized R_EM ∈ tb := by decide +kernel
theorem law_TA {s : State} {b : Nat} (hts : ∀ w ∈ lw_tbl, w.before #[Value.ref b] s = true) (hgv : (Jvm.Cond.and given_1 narrow_1).before #[Value.ref b] s = true) : TA s := by
  have hg := flat_of_before _ hgv
  have h : ∀ w ∈ thrA, w.before #[Value.ref b] s = true := by
    intro w hw
    simp only [thrA, List.mem_cons, List.not_mem_nil, or_false] at hw
    rcases hw with rfl | rfl | rfl | rfl | rfl | rfl | rfl | rfl
    · exact hts _ (by decide +kernel)
    · exact hts _ (by decide +kernel)
    · exact hts _ (by decide +kernel)
    · exact hts _ (by decide +kernel)
    · exact hts _ (by decide +kernel)
    · exact hts _ (by decide +kernel)
    · exact hg _ (by decide +kernel)
    · exact hg _ (by decide +kernel)
  intro w hw
  have h1 := h w hw
  simp only [thrA, List.mem_cons, List.not_mem_nil, or_false] at hw
  rcases hw with rfl | rfl | rfl | rfl | rfl | rfl | rfl | rfl <;> exact h1
theorem arr_known {s : State} {args : Array Value} {ty : FieldType} (h : (Cond.arrayClass ty).before args s = true) : ∃ cA : ClassId, ArrOfT s cA ty ∧ s.vm.findClass ("[" ++ ty.toString) = some cA := by
  obtain ⟨cA, kA, comp, h1, h2, h3⟩ := Cond.arrayClass_spec h
  exact ⟨cA, fun n z => ⟨fun k h => (by cases h), kA, h2, comp, h3⟩, h1⟩
section LOOP
variable {p : Program} {l : Launch} {e : Env} {s : State} {m : MethodId} {below : List Frame} {meth : Method} {c : Code} {b L : Nat} {xs : Nat → Int32} {D : va_G} {cI cZ cJ : ClassId} {qe qm : Nat → Nat} {oa w S wl : Nat}
set_option maxHeartbeats 4000000 in
set_option maxRecDepth 100000 in
theorem law_loop (E : LE p l s m meth c b L xs) (hG : Geo w S wl) : ∀ (k : Nat) {i cells slots : Nat} {ls : Array Slot} {H : Heap} {locs : List Loc}, L < i + 5 * k + 5 → i ≤ 10000 → cells + k ≤ 601024 → slots + 6 * k ≤ 7292999 → lv_has ls 7 [(4, .int (nI i)), (0, .ref b), (1, .ref (qe 0)), (2, .ref (qm 0)), (3, .ref oa)] → LW D cI cZ cJ s qe qm oa w S wl H locs → W p l e room_1 s m #[Value.ref b] below meth c H locs cells slots (lw_Z below #[Value.ref b] s) (F0 m 43 ls []) := by
  have hE := E
  obtain ⟨C, hX, hbl, hTA, hL, hfl⟩ := E
  have hx := C.1.1
  have hb := C.1.2.1
  have hbA : ¬ Aw s b := Nat.not_le.mpr hbl
  intro k
  induction k with
  | zero =>
    intro i cells slots ls H locs hk hi hc hs hl hW
    have hS : va_S (Aw s) s.heap H locs := by
      obtain ⟨f, u, K, V, ord, lf, thrown, fed, r, sealed, cn, current, key, value, many, sum, least, greatest, hw, -⟩ := hW
      exact hw.2.2.2
    refine lv_iload hx hb d_law_43 (lv_at hl 0 rfl) ?_
    refine lv_aload_n hx hb d_law_45 rfl (lv_at hl 1 rfl) ?_
    refine va_slen hx hb hX hbl hbA hS d_law_46 ?_
    refine zr_top (y := nI L) rfl ?_
    refine lv_iconst (v := nI 5) hx hb d_law_47 (by decide) ?_
    refine lv_isub hx hb d_law_48 ?_
    refine lv_icmp_gt (tgt := 464) hx hb d_law_49 (by decide) (fun hcond => ?_) (fun hcond => ?_)
    · refine lv_iconst (v := 1) hx hb d_law_464 (by decide) ?_
      refine va_forget hS.2.2 ?_
      refine W.widen (k := 601024) (n := 7292999) (by omega) (by omega) ?_
      exact lw_ret hx hb C.2.1 C.2.2 d_law_465
    · exact absurd (by rw [Int32.lt_iff_toInt_lt, pk_sub_toInt (by omega) (by omega), nI_toInt (by omega)]; omega) hcond
  | succ k ih =>
    intro i cells slots ls H locs hk hi hc hs hl hW
    have hS : va_S (Aw s) s.heap H locs := by
      obtain ⟨f, u, K, V, ord, lf, thrown, fed, r, sealed, cn, current, key, value, many, sum, least, greatest, hw, -⟩ := hW
      exact hw.2.2.2
    refine lv_iload hx hb d_law_43 (lv_at hl 0 rfl) ?_
    refine lv_aload_n hx hb d_law_45 rfl (lv_at hl 1 rfl) ?_
    refine va_slen hx hb hX hbl hbA hS d_law_46 ?_
    refine zr_top (y := nI L) rfl ?_
    refine lv_iconst (v := nI 5) hx hb d_law_47 (by decide) ?_
    refine lv_isub hx hb d_law_48 ?_
    refine lv_icmp_gt (tgt := 464) hx hb d_law_49 (by decide) (fun hcond => ?_) (fun hcond => ?_)
    · refine lv_iconst (v := 1) hx hb d_law_464 (by decide) ?_
      refine va_forget hS.2.2 ?_
      refine W.widen (k := 601024) (n := 7292999) (by omega) (by omega) ?_
      exact lw_ret hx hb C.2.1 C.2.2 d_law_465
    · have hi5 : i + 5 ≤ L := by
        rw [Int32.lt_iff_toInt_lt, pk_sub_toInt (by omega) (by omega), nI_toInt (by omega)] at hcond
        omega
      have kk : ∀ (ls : Array Slot) (H : Heap) (locs : List Loc), lv_has ls 7 [(4, .int (nI i)), (0, .ref b), (1, .ref (qe 0)), (2, .ref (qm 0)), (3, .ref oa)] → LW D cI cZ cJ s qe qm oa w S wl H locs → W p l e room_1 s m #[Value.ref b] below meth c H locs (cells + 1) (slots + 6) (lw_Z below #[Value.ref b] s) (F0 m 458 ls []) := by
        intro ls H locs hl hW
        refine lv_iinc (v := nI (i + 5)) (lv' := [(4, .int (nI (i + 5))), (0, .ref b), (1, .ref (qe 0)), (2, .ref (qm 0)), (3, .ref oa)]) hx hb d_law_458 hl (k := 0) rfl (by rw [← nI_add]; rfl) (by decide) rfl (fun ls hl => ?_)
        refine lv_goto (tgt := 43) hx hb d_law_461 (by decide) ?_
        exact ih (by omega) (by omega) (by omega) (by omega) hl hW
      refine lv_aload_n hx hb d_law_52 rfl (lv_at hl 1 rfl) ?_
      refine lv_iload hx hb d_law_53 (lv_at hl 0 rfl) ?_
      refine va_sld hx hb hX hbl hbA hS (vp_in_nI (n := i) (N := L) (by omega) (by omega)) d_law_55 ?_
      refine zr_top (y := xs i) (by rw [nI_clamp (by omega)]) ?_
      refine lv_bipush (v := 15) hx hb d_law_56 (by decide) ?_
      refine lv_iand hx hb d_law_58 ?_
      obtain ⟨j, hj, hje⟩ := pk_andE (xs i) (m := 15) 4 (by decide)
      refine zr_top (y := nI j) hje ?_
      have hcs : cells + 1 ≤ 601024 ∧ slots + 6 ≤ 7292999 := ⟨by omega, by omega⟩
      by_cases h10 : 10 < j
      · refine lv_tableOut (tgt := 458) hx hb d_law_59 (Or.inr (by rw [nI_toInt (by omega)]; omega)) (by decide) ?_
        refine W.widen (k := cells + 1) (n := slots + 6) (Nat.le_succ _) (Nat.le_add_right _ _) ?_
        exact kk ls H locs hl hW
      · have hj2 : j = 0 ∨ j = 1 ∨ j = 2 ∨ j = 3 ∨ j = 4 ∨ j = 5 ∨ j = 6 ∨ j = 7 ∨ j = 8 ∨ j = 9 ∨ j = 10 := by omega
        rcases hj2 with rfl | rfl | rfl | rfl | rfl | rfl | rfl | rfl | rfl | rfl | rfl
        · exact lv_tableIn (tgt := 116) hx hb d_law_59 (by decide) (by decide) rfl (by decide) (law_reset hE hG hl hi5 hcs hW kk)
        · exact lv_tableIn (tgt := 127) hx hb d_law_59 (by decide) (by decide) rfl (by decide) (law_feed hE hG hl hi5 hcs hW kk)
        · exact lv_tableIn (tgt := 164) hx hb d_law_59 (by decide) (by decide) rfl (by decide) (law_feedMany hE hG hl hi5 hcs hW kk)
        · exact lv_tableIn (tgt := 256) hx hb d_law_59 (by decide) (by decide) rfl (by decide) (law_seal hE hG hl hi5 hcs hW kk)
        · exact lv_tableIn (tgt := 269) hx hb d_law_59 (by decide) (by decide) rfl (by decide) (law_nextRow hE hG hl hi5 hcs hW kk)
        · exact lv_tableIn (tgt := 282) hx hb d_law_59 (by decide) (by decide) rfl (by decide) (law_nextGroup hE hG hl hi5 hcs hW kk)
        · exact lv_tableIn (tgt := 295) hx hb d_law_59 (by decide) (by decide) rfl (by decide) (law_skipTo hE hG hl hi5 hcs hW kk)
        · exact lv_tableIn (tgt := 320) hx hb d_law_59 (by decide) (by decide) rfl (by decide) (law_key hE hG hl hi5 hcs hW kk)
        · exact lv_tableIn (tgt := 333) hx hb d_law_59 (by decide) (by decide) rfl (by decide) (law_value hE hG hl hi5 hcs hW kk)
        · exact lv_tableIn (tgt := 346) hx hb d_law_59 (by decide) (by decide) rfl (by decide) (law_group hE hG hl hi5 hcs hW kk)
        · exact lv_tableIn (tgt := 402) hx hb d_law_59 (by decide) (by decide) rfl (by decide) (law_count hE hG hl hi5 hcs hW kk)
end LOOP
set_option maxHeartbeats 4000000 in
set_option maxRecDepth 100000 in
/-- from the entry, for every script of at most 2562 ints, the law comes to its end with true -/
theorem whole_start {p : Program} {e : Env} {s : State} {m : MethodId} {below : List Frame} {meth : Method} {c : Code} (l : Launch) (hfl : l.flags = pinnedFlags ++ [noTraceFlag]) {b L : Nat} {xs : Nat → Int32} (hL : L ≤ 2562) (C0 : lw_At p s m meth c b L xs) : W p l e room_1 s m #[Value.ref b] below meth c s.heap [] 0 0 (lw_Z below #[Value.ref b] s) (entryFrame m ([Value.ref b] : List Value).toArray 7) := by
  obtain ⟨hx, hb, hr, hml, hown, hts, hX, hbl, hlocks, hgv⟩ := C0
  have C : Cx p m meth c code 7 ret s #[Value.ref b] R_law := ⟨⟨hx, hb, hml, hown, fun w h => hts w (tb_lw w h)⟩, hr, hlocks⟩
  have htb := C.1.2.2.2.2
  have E : LE p l s m meth c b L xs := ⟨C, hX, hbl, law_TA hts hgv, hL, hfl⟩
  have hA : ∀ q : Nat, s.heap.size ≤ q → Aw s q := fun _ h => h
  have hbA : ¬ Aw s b := Nat.not_le.mpr hbl
  obtain ⟨c0, iS0, hKn0⟩ := u_known (C := R_ES) (T := F_ES) (N := 24) (n := 24) htb i_ES (htb _ n1_ES.2.1)
  obtain ⟨c1, iS1, hKn1⟩ := u_known (C := R_EM) (T := F_EM) (N := 19) (n := 19) htb i_EM (htb _ n1_EM.2.1)
  obtain ⟨D, hKc⟩ : ∃ D : va_G, ∀ (k : Nat) (q : vw_C), classes[k]? = some q → u_Kn s q.1 q.2.1 q.2.2 (D.1 k) (D.2 k) := by
    refine ⟨(fun k => if k = 0 then c0 else c1, fun k => if k = 0 then iS0 else iS1), ?_⟩
    intro k q hq
    match k, hq with
    | 0, hq => cases hq; exact hKn0
    | 1, hq => cases hq; exact hKn1
    | k + 2, hq => simp [classes] at hq
  obtain ⟨cI, hI1, hI2⟩ := arr_known (htb _ ac_int)
  obtain ⟨cZ, hZ1, hZ2⟩ := arr_known (htb _ ac_boolean)
  obtain ⟨cJ, hJ1, hJ2⟩ := arr_known (htb _ ac_long)
  have hK : va_K D classes (tyL cI cZ cJ) s := by
    refine ⟨hKc, fun k q hq => ?_⟩
    match k, hq with
    | 0, hq => cases hq; exact ⟨hI1, hI2⟩
    | 1, hq => cases hq; exact ⟨hZ1, hZ2⟩
    | 2, hq => cases hq; exact ⟨hJ1, hJ2⟩
    | k + 3, hq => simp at hq
  have hw : Wd D (tyL cI cZ cJ) (Aw s) s s.heap [] [] := ⟨hK, fun k q h => by simp at h, ⟨fun i j p q h => by simp at h, fun k q h => by simp at h⟩, va_S.rf⟩
  have hl := lv_entry ([.ref b]) (n := 7) (Nat.le_of_ble_eq_true rfl)
  rw [lg_entry_eq]
  generalize (lg_sl ([.ref b]) ++ List.replicate (7 - (lg_sl ([.ref b])).length) Slot.unset).toArray = ls at hl ⊢
  have hl : lv_has ls 7 [(0, .ref b)] := hl
  have hL31 : L < 2 ^ 31 := by omega
  refine va_new (ci := 0) (fs := esBl) (C := R_ES) (T := F_ES) (N := 24) hx hb htb i_ES t_ES t_ES_ok hown (htb _ n1_ES.1) (htb _ n1_ES.2.1) (htb _ n1_ES.2.2) hw.1 hw.2.1 hw.2.2.1 hw.2.2.2 hA rfl bl_ES (Nat.le_of_ble_eq_true rfl) (Nat.le_of_ble_eq_true rfl) d_law_0 (fun o H hP hD hS => ?_)
  have hw : Wd D (tyL cI cZ cJ) (Aw s) s H [] [(o, .inr (0, esBl))] := ⟨hK, hP, hD, hS⟩
  refine W.widen (k := 1) (n := 24) (by decide) (by decide) ?_
  refine lv_dup hx hb d_law_3 rfl ?_
  refine lv_aload_n hx hb d_law_4 rfl (lv_at hl 0 rfl) ?_
  refine lv_iconst (v := nI 0) hx hb d_law_5 (by decide) ?_
  refine zr_cell C hX hbl hbA hw hl.1 hL31 (by decide) (Nat.le_of_ble_eq_true rfl) ⟨Nat.le_of_ble_eq_true rfl, Nat.le_of_ble_eq_true rfl⟩ ⟨Nat.le_of_ble_eq_true rfl, Nat.le_of_ble_eq_true rfl⟩ d_law_6 ?_
  refine lv_aload_n hx hb d_law_9 rfl (lv_at hl 0 rfl) ?_
  refine lv_iconst (v := nI 1) hx hb d_law_10 (by decide) ?_
  refine zr_cell C hX hbl hbA hw hl.1 hL31 (by decide) (Nat.le_of_ble_eq_true rfl) ⟨Nat.le_of_ble_eq_true rfl, Nat.le_of_ble_eq_true rfl⟩ ⟨Nat.le_of_ble_eq_true rfl, Nat.le_of_ble_eq_true rfl⟩ d_law_11 ?_
  generalize hx0 : (if 0 < L then xs 0 else 0) = x0
  generalize hx1 : (if 1 < L then xs 1 else 0) = x1
  obtain ⟨w, hwe⟩ : ∃ w, w = clN x0 64 := ⟨_, rfl⟩
  obtain ⟨S, hSe⟩ : ∃ S, S = clN x1 2000 / w := ⟨_, rfl⟩
  refine zr_ctorF (As := [.int x0, .int x1]) (rest := [.ref o]) (wr := []) C (c_ES_init hwe hSe) k_ES_init rfl h_ES_init ⟨Nat.le_of_ble_eq_true rfl, Nat.le_of_ble_eq_true rfl⟩ [0] [] rfl rfl rfl rfl (by decide) hw hA hl.1 rfl (Nat.le_of_ble_eq_true rfl) d_law_14 ⟨Nat.le_of_ble_eq_true rfl, Nat.le_of_ble_eq_true rfl⟩ (fun u H locs hpo hwN => ?_)
  obtain ⟨qe, wl⟩ := u
  obtain ⟨ho, hG⟩ := hpo
  have ho : qe 0 = o := ho
  have hG : Geo w S wl := hG
  subst ho
  have hw : Wd D (tyL cI cZ cJ) (Aw s) s H locs (esW cI qe w (S * w) (S + 1) wl (fun _ => 0) (fun _ => 0) (fun _ => 0) (fun _ => 0) (fun _ => 0) (fun _ => 0) (fun _ => 0) (fun _ => some 0) 0 0 0 false 0 0 0 0 0 0 0 0 0 0) := hwN
  refine W.widen (k := 9) (n := 12324) (by decide) (by decide) ?_
  refine lv_astore_n (lv' := [(1, .ref (qe 0)), (0, .ref b)]) hx hb d_law_17 rfl hl (by decide) rfl (fun ls hl => ?_)
  refine va_new (ci := 1) (fs := emBl) (C := R_EM) (T := F_EM) (N := 19) hx hb htb i_EM t_EM t_EM_ok hown (htb _ n1_EM.1) (htb _ n1_EM.2.1) (htb _ n1_EM.2.2) hw.1 hw.2.1 hw.2.2.1 hw.2.2.2 hA rfl bl_EM (Nat.le_of_ble_eq_true rfl) (Nat.le_of_ble_eq_true rfl) d_law_18 (fun o H hP hD hS => ?_)
  have hw : Wd D (tyL cI cZ cJ) (Aw s) s H locs (esW cI qe w (S * w) (S + 1) wl (fun _ => 0) (fun _ => 0) (fun _ => 0) (fun _ => 0) (fun _ => 0) (fun _ => 0) (fun _ => 0) (fun _ => some 0) 0 0 0 false 0 0 0 0 0 0 0 0 0 0 ++ [(o, .inr (1, emBl))]) := ⟨hK, hP, hD, hS⟩
  refine W.widen (k := 10) (n := 12343) (by decide) (by decide) ?_
  refine lv_dup hx hb d_law_21 rfl ?_
  refine lv_aload_n hx hb d_law_22 rfl (lv_at hl 1 rfl) ?_
  refine lv_iconst (v := nI 0) hx hb d_law_23 (by decide) ?_
  refine zr_cell C hX hbl hbA hw hl.1 hL31 (by decide) (Nat.le_of_ble_eq_true rfl) ⟨Nat.le_of_ble_eq_true rfl, Nat.le_of_ble_eq_true rfl⟩ ⟨Nat.le_of_ble_eq_true rfl, Nat.le_of_ble_eq_true rfl⟩ d_law_24 ?_
  refine lv_aload_n hx hb d_law_27 rfl (lv_at hl 1 rfl) ?_
  refine lv_iconst (v := nI 1) hx hb d_law_28 (by decide) ?_
  refine zr_cell C hX hbl hbA hw hl.1 hL31 (by decide) (Nat.le_of_ble_eq_true rfl) ⟨Nat.le_of_ble_eq_true rfl, Nat.le_of_ble_eq_true rfl⟩ ⟨Nat.le_of_ble_eq_true rfl, Nat.le_of_ble_eq_true rfl⟩ d_law_29 ?_
  rw [hx0, hx1]
  refine zr_ctorF (As := [.int x0, .int x1]) (rest := [.ref o]) (wr := esW cI qe w (S * w) (S + 1) wl (fun _ => 0) (fun _ => 0) (fun _ => 0) (fun _ => 0) (fun _ => 0) (fun _ => 0) (fun _ => 0) (fun _ => some 0) 0 0 0 false 0 0 0 0 0 0 0 0 0 0) C (c_EM_init hwe hSe) k_EM_init rfl h_EM_init ⟨Nat.le_of_ble_eq_true rfl, Nat.le_of_ble_eq_true rfl⟩ [9] [0, 1, 2, 3, 4, 5, 6, 7, 8] rfl rfl rfl rfl (by decide) hw hA hl.1 rfl (Nat.le_of_ble_eq_true rfl) d_law_32 ⟨Nat.le_of_ble_eq_true rfl, Nat.le_of_ble_eq_true rfl⟩ (fun qm H locs ho hwN => ?_)
  have ho : qm 0 = o := ho
  subst ho
  have hw : Wd D (tyL cI cZ cJ) (Aw s) s H locs (esW cI qe w (S * w) (S + 1) wl (fun _ => 0) (fun _ => 0) (fun _ => 0) (fun _ => 0) (fun _ => 0) (fun _ => 0) (fun _ => 0) (fun _ => some 0) 0 0 0 false 0 0 0 0 0 0 0 0 0 0 ++ emW cI cZ qm (fun _ => 0) (fun _ => 0) (fun _ => 0) (fun _ => false) 0 w (S * w + w) 0 0 0 false 0 0 0 0 0 0 0 0) := hwN
  refine W.widen (k := 14) (n := 20599) (by decide) (by decide) ?_
  refine lv_astore_n (lv' := [(2, .ref (qm 0)), (1, .ref (qe 0)), (0, .ref b)]) hx hb d_law_35 rfl hl (by decide) rfl (fun ls hl => ?_)
  refine lv_iconst (v := nI 1) hx hb d_law_36 (by decide) ?_
  refine zr_newJ C hA hw 2 rfl (by decide) (Nat.le_of_ble_eq_true rfl) (Nat.le_of_ble_eq_true rfl) d_law_37 (fun oa H hw => ?_)
  have hw : Wd D (tyL cI cZ cJ) (Aw s) s H locs ((oa, .inl (cJ, 1, .inr (.inl (fun _ => 0)))) :: (esW cI qe w (S * w) (S + 1) wl (fun _ => 0) (fun _ => 0) (fun _ => 0) (fun _ => 0) (fun _ => 0) (fun _ => 0) (fun _ => 0) (fun _ => some 0) 0 0 0 false 0 0 0 0 0 0 0 0 0 0 ++ emW cI cZ qm (fun _ => 0) (fun _ => 0) (fun _ => 0) (fun _ => false) 0 w (S * w + w) 0 0 0 false 0 0 0 0 0 0 0 0)) := hw.sub [14, 0, 1, 2, 3, 4, 5, 6, 7, 8, 9, 10, 11, 12, 13] rfl rfl rfl
  have hw : Wd D (tyL cI cZ cJ) (Aw s) s H locs ((oa, .inl (cJ, 1, .inr (.inl (fun _ => 0)))) :: (esW cI qe w (S * w) (S + 1) wl (fun _ => 0) (fun _ => 0) (fun _ => 0) (fun _ => 0) (fun _ => 0) (fun _ => 0) (fun _ => 0) (fun _ => some 0) 0 0 0 false 0 0 0 0 0 0 0 0 0 0 ++ emW cI cZ qm (fun _ => 0) (fun _ => 0) (fun _ => 0) (fun _ => false) 0 w (S * w + w) 0 0 (0 - 0 * w) false 0 0 0 0 0 0 0 0)) := by rw [Nat.zero_sub]; exact hw
  refine W.widen (k := 15) (n := 20600) (by decide) (by decide) ?_
  refine lv_astore_n (lv' := [(3, .ref oa), (2, .ref (qm 0)), (1, .ref (qe 0)), (0, .ref b)]) hx hb d_law_39 rfl hl (by decide) rfl (fun ls hl => ?_)
  refine lv_iconst (v := nI 2) hx hb d_law_40 (by decide) ?_
  refine lv_istore (lv' := [(4, .int (nI 2)), (3, .ref oa), (2, .ref (qm 0)), (1, .ref (qe 0)), (0, .ref b)]) hx hb d_law_41 hl (by decide) rfl (fun ls hl => ?_)
  refine law_loop E hG 513 (i := 2) (by omega) (by decide) (by decide) (by decide) (lv_sub hl [0, 4, 3, 2, 1] rfl) ⟨fun _ => 0, (fun _ => 0, fun _ => 0, fun _ => 0, fun _ => 0, fun _ => 0, fun _ => 0, fun _ => 0, fun _ => some 0, 0, 0, 0, 0), fun _ => 0, fun _ => 0, fun _ => 0, fun _ => false, 0, 0, 0, false, 0, 0, 0, 0, 0, 0, 0, 0, hw, Or.inl ⟨rfl, rfl, rfl, RepU.empty _ _ _ _ _ _ _ _ _ _ _⟩, ⟨by omega, by omega, by omega⟩, fun h => by cases h⟩
set_option maxHeartbeats 4000000 in
theorem lw_walk (l : Launch) (hfl : l.flags = pinnedFlags ++ [noTraceFlag]) (b : Addr) (xs : List Int32) : MetFree l x (headSpec (Jvm.Cond.code x code maxLocals ret :: tables_1) room_1) (lw_P b xs) (fun _ _ _ _ _ => True) lw_Q := by
  refine MetFree.of_bodyS (code := code) (maxLocals := maxLocals) (ret := ret) (by decide) ?_ ?_
  · intro args s m h hn
    obtain ⟨meth, c, h1, h2, h3, h4, h5, h6, -, -⟩ := Cond.code_spec hn (atoms_spec (ws := Jvm.Cond.code x code maxLocals ret :: tables_1) h _ List.mem_cons_self)
    exact ⟨meth, c, h1, h2, h3, h4, h5, h6⟩
  · intro p e s m args below meth c s₁ B hml0 hP _
    obtain ⟨rfl, hx, hbd, hgv⟩ := hP
    obtain ⟨scr, harrAt, hlist, hof, hsmall⟩ := hx
    obtain ⟨hcb, hkn, -, -⟩ := State.arrayAt?_spec harrAt
    have hown : s.vm.findClass R_law = some m.cls := findClass_of_methodNamed B.named
    have hts0 : ∀ c ∈ (Jvm.Cond.code x code maxLocals ret :: tables_1), c.before #[Value.ref b] s = true := atoms_spec (ws := Jvm.Cond.code x code maxLocals ret :: tables_1) B.pre
    have hts : ∀ w ∈ lw_tbl, w.before #[Value.ref b] s = true := k2_hts_sels lw_privs (fun w hw => hts0 w (List.mem_cons_of_mem _ hw)) lw_privs_ok
    have hml : c.maxLocals = 7 := B.maxLocals_eq (hts0 _ List.mem_cons_self)
    have X₀ : Stand p l e room_1 s m #[Value.ref b] below meth c s₁ [] 0 0 := Stand.of_body B
    have hh0 : s₁.heap = s.heap := by rw [B.state]; rfl
    have hsz : scr.slots.size = xs.length := by rw [← Array.length_toList, hlist, List.length_map]
    have hval : ∀ j : Nat, j < xs.length → scr.slots[j]? = some (.int (xs.getD j 0)) := fun j hj => by
      rw [← Array.getElem?_toList, hlist]
      simp [hj]
    have hbl : b < s.heap.size := (Array.getElem?_eq_some_iff.mp hcb).1
    have hX : va_X b xs.length (fun j => xs.getD j 0) s s.heap := ⟨scr, hcb, hof, hkn, hsz, hval⟩
    have K : W p l e room_1 s m #[Value.ref b] below meth c s₁.heap [] 0 0 (lw_Z below #[Value.ref b] s) (entryFrame m ([Value.ref b] : List Value).toArray 7) := by
      rw [hh0]
      exact whole_start l hfl hbd ⟨B.exec, B.bytes, B.returns, hml, hown, hts, hX, hbl, B.notSynchronized, hgv⟩
    obtain ⟨t, a1, o, b1, b2, b3⟩ := K s₁ rfl X₀
    exact ⟨t, o, a1, b1, b2, b3⟩
theorem lw_pre_spec {args : Array Value} {s : State} (h : (Jvm.Cond.and given_1 narrow_1).before args s = true) (hr : rest_1_c.before args s = true) : ∃ (b : Addr) (xs : List Int32), lw_P b xs args s := by
  have hs := flat_of_before _ h
  have hq := flat_of_before _ hr
  have hc : (Cond.count 1).before args s = true := hs _ (by decide +kernel)
  have harr : (Cond.arrayOf (.arg 0) .int).before args s = true := hs _ (by decide +kernel)
  have hle : (Cond.le (.length (.arg 0)) (.int 2562)).before args s = true := hs _ (by decide +kernel)
  have hlen : (Cond.isInt (.length (.arg 0))).before args s = true := hq _ (by decide +kernel)
  have hall : (Cond.all (.arg 0) (.isInt (.elem (.arg 0) (.index 0)))).before args s = true := hq _ (by decide +kernel)
  obtain ⟨b, xs, hb, hx⟩ := State.ints_of_pre rfl harr hlen hall
  have hsm : xs.length < 2 ^ 31 := hx.choose_spec.2.2.2
  have hev : (Term.length (.arg 0)).eval args s none [] s = some (.int xs.length.toInt32) := hx.length_eval hb
  have hv := Cond.le_ints hev (show (Term.int 2562).eval args s none [] s = some (.int 2562) from rfl)
  have hd : xs.length.toInt32 ≤ 2562 := by
    simpa [Cond.before, Cond.holds, hv] using hle
  have hN : xs.length ≤ 2562 := (Int32.ofNat_le_ofNat hsm (by decide)).mp (show Int32.ofNat xs.length ≤ Int32.ofNat 2562 from hd)
  exact ⟨b, xs, Cond.one_arg hc (show args[0]? = some (.ref b) from hb), hx, hN, h⟩
theorem lw_comes (l : Launch) (hfl : l.flags = pinnedFlags ++ [noTraceFlag]) : Comes l x (Jvm.Cond.code x code maxLocals ret :: tables_1) room_1 (fun tb e args s => Calls_1 tb e args s ∧ rest_1 tb e args s ∧ Pre_1 tb e args s)
    (fun _ _ args s o t => lw_Q args s o t) := by
  intro p e ha hc hk s m args below hf hfit hheap happ hpre
  obtain ⟨b, xs, hP⟩ := lw_pre_spec hpre.2.2 hpre.2.1
  obtain ⟨k, o, h1, h2, h3, hQ⟩ := lw_walk l hfl b xs p e ha hc hk s m args below hf ((Spec.applies_iff_loose hf).mp happ).1 hP trivial
  exact ⟨k, o, h1, h2, h3, hQ⟩
theorem lw_frame {s t : State} {o : Outcome} {args : Array Value} (h : Framed s o t [] 601024 7292999) :
    Framed s o t (fieldLocs frame_1_writes args s ++ arrayLocs frame_1_arrays args s ++ staticLocs frame_1_statics s) 601024 7292999 := h
theorem lw_limb (L : Cond) (hL : ∀ (args : Array Value) (s t : State), L.after args s (.returned (some (.int 1))) t = true) :
    ArmFor flags0 classFile x code maxLocals ret World_1 tables_1 room_1 Calls_1 rest_1 Pre_1
      (fun tb e a s o t => postC L tb e a s o t ∧ Framed s o t (fieldLocs frame_1_writes a s ++ arrayLocs frame_1_arrays a s ++ staticLocs frame_1_statics s) 601024 7292999) := by
  intro l hfl _ _ p e ha hc hk s m args below hf hfit hheap happ hpre
  obtain ⟨k, o, h1, h2, h3, rfl, hF⟩ := lw_comes l hfl p e ha hc hk s m args below hf hfit hheap happ hpre
  exact ⟨k, _, h1, h2, h3, hL args s _, lw_frame hF⟩
theorem i_vc : Claimed_1_1 ∧ Claimed_1_2 := ⟨lw_limb limb_1_1 (fun args s t => by simp [limb_1_1, Cond.after, Cond.holds, Cond.value]), lw_limb limb_1_2 (fun args s t => Cond.after_iff.mpr (by
  first | (rw [show limb_1_2 = Cond.eq .result (.int 1) from rfl, Cond.eq_ints (x := 1) (y := 1) rfl rfl]; simp; done) | (simp [limb_1_2, Cond.value, Term.eval]; done)))⟩
end
