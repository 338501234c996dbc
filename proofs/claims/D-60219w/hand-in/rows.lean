section
-- ===== PART A: goes FIRST, ahead of the names: the tables' words, and 'selects' of the private methods out of them =====
/-- a private method of a class that the tables say can be made, by its rows of tables_1 -/
def lw_okq (q : MethodName × Nat) : Prop := (q.1.cls ≠ "java/lang/invoke/MethodHandle" ∧ q.1.cls ≠ "java/lang/invoke/VarHandle") ∧ Cond.instantiable q.1.cls q.2 ∈ tables_1 ∧ Cond.privateMethod q.1 ∈ tables_1 ∧ Cond.instanceMethod q.1 ∈ tables_1
theorem lw_p0 : lw_okq (⟨"RunsFinder", "isPlace", "(I)Z"⟩, 8) := ⟨⟨by decide +kernel, by decide +kernel⟩, List.mem_of_getElem? (i := 4) (by decide +kernel), List.mem_of_getElem? (i := 50) (by decide +kernel), List.mem_of_getElem? (i := 51) (by decide +kernel)⟩
theorem lw_p1 : lw_okq (⟨"RunsFinder", "refresh", "()V"⟩, 8) := ⟨⟨by decide +kernel, by decide +kernel⟩, List.mem_of_getElem? (i := 4) (by decide +kernel), List.mem_of_getElem? (i := 74) (by decide +kernel), List.mem_of_getElem? (i := 75) (by decide +kernel)⟩
theorem lw_p2 : lw_okq (⟨"RunsFinder", "findEndings", "(Z)V"⟩, 8) := ⟨⟨by decide +kernel, by decide +kernel⟩, List.mem_of_getElem? (i := 4) (by decide +kernel), List.mem_of_getElem? (i := 78) (by decide +kernel), List.mem_of_getElem? (i := 79) (by decide +kernel)⟩
theorem lw_p3 : lw_okq (⟨"RunsFinder", "comesBefore", "(IIZ)Z"⟩, 8) := ⟨⟨by decide +kernel, by decide +kernel⟩, List.mem_of_getElem? (i := 4) (by decide +kernel), List.mem_of_getElem? (i := 82) (by decide +kernel), List.mem_of_getElem? (i := 83) (by decide +kernel)⟩
theorem lw_p4 : lw_okq (⟨"RunsFinder", "forward", "(II)I"⟩, 8) := ⟨⟨by decide +kernel, by decide +kernel⟩, List.mem_of_getElem? (i := 4) (by decide +kernel), List.mem_of_getElem? (i := 86) (by decide +kernel), List.mem_of_getElem? (i := 87) (by decide +kernel)⟩
theorem lw_p5 : lw_okq (⟨"RunsFinder", "widen", "(II)V"⟩, 8) := ⟨⟨by decide +kernel, by decide +kernel⟩, List.mem_of_getElem? (i := 4) (by decide +kernel), List.mem_of_getElem? (i := 90) (by decide +kernel), List.mem_of_getElem? (i := 91) (by decide +kernel)⟩
theorem lw_p6 : lw_okq (⟨"RunsFinder", "backward", "(II)I"⟩, 8) := ⟨⟨by decide +kernel, by decide +kernel⟩, List.mem_of_getElem? (i := 4) (by decide +kernel), List.mem_of_getElem? (i := 94) (by decide +kernel), List.mem_of_getElem? (i := 95) (by decide +kernel)⟩
theorem lw_p7 : lw_okq (⟨"RunsFinder", "insert", "(III)V"⟩, 8) := ⟨⟨by decide +kernel, by decide +kernel⟩, List.mem_of_getElem? (i := 4) (by decide +kernel), List.mem_of_getElem? (i := 98) (by decide +kernel), List.mem_of_getElem? (i := 99) (by decide +kernel)⟩
theorem lw_p8 : lw_okq (⟨"RunsFinder", "isRun", "(I)Z"⟩, 8) := ⟨⟨by decide +kernel, by decide +kernel⟩, List.mem_of_getElem? (i := 4) (by decide +kernel), List.mem_of_getElem? (i := 106) (by decide +kernel), List.mem_of_getElem? (i := 107) (by decide +kernel)⟩
theorem lw_p9 : lw_okq (⟨"RunsFinderModel", "bad", "(I)Z"⟩, 7) := ⟨⟨by decide +kernel, by decide +kernel⟩, List.mem_of_getElem? (i := 150) (by decide +kernel), List.mem_of_getElem? (i := 190) (by decide +kernel), List.mem_of_getElem? (i := 191) (by decide +kernel)⟩
theorem lw_p10 : lw_okq (⟨"RunsFinderModel", "list", "()V"⟩, 7) := ⟨⟨by decide +kernel, by decide +kernel⟩, List.mem_of_getElem? (i := 150) (by decide +kernel), List.mem_of_getElem? (i := 214) (by decide +kernel), List.mem_of_getElem? (i := 215) (by decide +kernel)⟩
theorem lw_p11 : lw_okq (⟨"RunsFinderModel", "runFrom", "(II)I"⟩, 7) := ⟨⟨by decide +kernel, by decide +kernel⟩, List.mem_of_getElem? (i := 150) (by decide +kernel), List.mem_of_getElem? (i := 218) (by decide +kernel), List.mem_of_getElem? (i := 219) (by decide +kernel)⟩
theorem lw_p12 : lw_okq (⟨"RunsFinderModel", "hasPeriod", "(III)Z"⟩, 7) := ⟨⟨by decide +kernel, by decide +kernel⟩, List.mem_of_getElem? (i := 150) (by decide +kernel), List.mem_of_getElem? (i := 222) (by decide +kernel), List.mem_of_getElem? (i := 223) (by decide +kernel)⟩
theorem lw_p13 : lw_okq (⟨"RunsFinderModel", "leastPeriod", "(II)I"⟩, 7) := ⟨⟨by decide +kernel, by decide +kernel⟩, List.mem_of_getElem? (i := 150) (by decide +kernel), List.mem_of_getElem? (i := 226) (by decide +kernel), List.mem_of_getElem? (i := 227) (by decide +kernel)⟩
theorem lw_p14 : lw_okq (⟨"RunsFinderModel", "shared", "(II)I"⟩, 7) := ⟨⟨by decide +kernel, by decide +kernel⟩, List.mem_of_getElem? (i := 150) (by decide +kernel), List.mem_of_getElem? (i := 270) (by decide +kernel), List.mem_of_getElem? (i := 271) (by decide +kernel)⟩
def lw_privs_1 : List (MethodName × Nat) := [(⟨"RunsFinder", "isPlace", "(I)Z"⟩, 8), (⟨"RunsFinder", "refresh", "()V"⟩, 8), (⟨"RunsFinder", "findEndings", "(Z)V"⟩, 8), (⟨"RunsFinder", "comesBefore", "(IIZ)Z"⟩, 8), (⟨"RunsFinder", "forward", "(II)I"⟩, 8), (⟨"RunsFinder", "widen", "(II)V"⟩, 8), (⟨"RunsFinder", "backward", "(II)I"⟩, 8), (⟨"RunsFinder", "insert", "(III)V"⟩, 8), (⟨"RunsFinder", "isRun", "(I)Z"⟩, 8), (⟨"RunsFinderModel", "bad", "(I)Z"⟩, 7), (⟨"RunsFinderModel", "list", "()V"⟩, 7), (⟨"RunsFinderModel", "runFrom", "(II)I"⟩, 7), (⟨"RunsFinderModel", "hasPeriod", "(III)Z"⟩, 7), (⟨"RunsFinderModel", "leastPeriod", "(II)I"⟩, 7), (⟨"RunsFinderModel", "shared", "(II)I"⟩, 7)]
theorem lw_r1 : ∀ q ∈ lw_privs_1, lw_okq q := List.forall_mem_cons.mpr ⟨lw_p0, List.forall_mem_cons.mpr ⟨lw_p1, List.forall_mem_cons.mpr ⟨lw_p2, List.forall_mem_cons.mpr ⟨lw_p3, List.forall_mem_cons.mpr ⟨lw_p4, List.forall_mem_cons.mpr ⟨lw_p5, List.forall_mem_cons.mpr ⟨lw_p6, List.forall_mem_cons.mpr ⟨lw_p7, List.forall_mem_cons.mpr ⟨lw_p8, List.forall_mem_cons.mpr ⟨lw_p9, List.forall_mem_cons.mpr ⟨lw_p10, List.forall_mem_cons.mpr ⟨lw_p11, List.forall_mem_cons.mpr ⟨lw_p12, List.forall_mem_cons.mpr ⟨lw_p13, List.forall_mem_cons.mpr ⟨lw_p14, fun _ h => absurd h List.not_mem_nil⟩⟩⟩⟩⟩⟩⟩⟩⟩⟩⟩⟩⟩⟩⟩
def lw_privs : List (MethodName × Nat) := lw_privs_1
def lw_tbl : List Cond := k2_sels lw_privs ++ tables_1
theorem lw_privs_ok : ∀ q ∈ lw_privs, lw_okq q := lw_r1
/-- the words that a call hands on -/
def lw_gt : List Cond := lw_tbl.filter goodWord
theorem lw_good : ∀ w ∈ lw_gt, goodWord w = true := fun w h => (List.mem_filter.mp h).2
theorem lw_sub : ∀ w ∈ lw_gt, w ∈ lw_tbl := fun w h => (List.mem_filter.mp h).1
theorem lw_in {w : Cond} (i : Nat) (h : lw_tbl[i]? = some w) (hg : goodWord w = true) : w ∈ lw_gt := List.mem_filter.mpr ⟨List.mem_of_getElem? h, hg⟩
abbrev R_X : String := "RunsFinder"
def F_X : u_T := fun k => match k with
  | 0 => ("RunsFinder", "text", "[I", true)
  | 1 => ("RunsFinder", "after", "[I", true)
  | 2 => ("RunsFinder", "first", "[I", true)
  | 3 => ("RunsFinder", "last", "[I", true)
  | 4 => ("RunsFinder", "step", "[I", true)
  | 5 => ("RunsFinder", "length", "I", false)
  | 6 => ("RunsFinder", "runCount", "I", false)
  | _ => ("RunsFinder", "current", "Z", false)
def t_X : Nat → FieldType := fun k => match k with
  | 0 => (.array .int)
  | 1 => (.array .int)
  | 2 => (.array .int)
  | 3 => (.array .int)
  | 4 => (.array .int)
  | 5 => .int
  | 6 => .int
  | _ => .boolean
abbrev w_X : List Cond := u_ws R_X F_X 8
theorem n_X : ∀ a, a < 8 → ∀ b, b < 8 → a ≠ b → (F_X a).2.1 ≠ (F_X b).2.1 := by decide +kernel
theorem t_X_ok : ∀ k, k < 8 → parseFieldDescriptor (F_X k).2.2.1 = some (t_X k) := by decide +kernel
theorem i_X : ∀ w ∈ w_X, w ∈ lw_gt := by decide +kernel
abbrev R_M : String := "RunsFinderModel"
def F_M : u_T := fun k => match k with
  | 0 => ("RunsFinderModel", "length", "I", false)
  | 1 => ("RunsFinderModel", "text", "[I", false)
  | 2 => ("RunsFinderModel", "copy", "[I", false)
  | 3 => ("RunsFinderModel", "found", "I", false)
  | 4 => ("RunsFinderModel", "first", "[I", false)
  | 5 => ("RunsFinderModel", "last", "[I", false)
  | _ => ("RunsFinderModel", "least", "[I", false)
def t_M : Nat → FieldType := fun k => match k with
  | 0 => .int
  | 1 => (.array .int)
  | 2 => (.array .int)
  | 3 => .int
  | 4 => (.array .int)
  | 5 => (.array .int)
  | _ => (.array .int)
abbrev w_M : List Cond := u_ws R_M F_M 7
theorem n_M : ∀ a, a < 7 → ∀ b, b < 7 → a ≠ b → (F_M a).2.1 ≠ (F_M b).2.1 := by decide +kernel
theorem t_M_ok : ∀ k, k < 7 → parseFieldDescriptor (F_M k).2.2.1 = some (t_M k) := by decide +kernel
theorem i_M : ∀ w ∈ w_M, w ∈ lw_gt := by decide +kernel
abbrev classes : List vw_C := [(R_X, F_X, 8), (R_M, F_M, 7)]
/-- what the tables say of a method that a class calls -/
def lw_M (own : String) (idx : Nat) (y : MethodName) (b : ByteArray) (maxL : Nat) (rt : Option FieldType) : Prop := Cond.methodLink own idx y ∈ lw_gt ∧ Cond.instanceMethod y ∈ lw_gt ∧ Cond.selects y.cls y y ∈ lw_gt ∧ Cond.initialized y.cls ∈ lw_gt ∧ Cond.code y b maxL rt ∈ lw_gt
abbrev b_X_init : ByteArray := prog_1_method_1_code
def y_X_init : MethodName := ⟨"RunsFinder", "<init>", "()V"⟩
abbrev b_X_push : ByteArray := prog_1_method_2_code
def y_X_push : MethodName := ⟨"RunsFinder", "push", "(I)I"⟩
abbrev b_X_pop : ByteArray := prog_1_method_3_code
def y_X_pop : MethodName := ⟨"RunsFinder", "pop", "(I)I"⟩
abbrev b_X_repeat : ByteArray := prog_1_method_4_code
def y_X_repeat : MethodName := ⟨"RunsFinder", "repeat", "(II)I"⟩
abbrev b_X_isPlace : ByteArray := prog_1_method_21_code
def y_X_isPlace : MethodName := ⟨"RunsFinder", "isPlace", "(I)Z"⟩
abbrev b_X_set : ByteArray := prog_1_method_5_code
def y_X_set : MethodName := ⟨"RunsFinder", "set", "(II)I"⟩
abbrev b_X_reverse : ByteArray := prog_1_method_6_code
def y_X_reverse : MethodName := ⟨"RunsFinder", "reverse", "()I"⟩
abbrev b_X_length : ByteArray := prog_1_method_7_code
def y_X_length : MethodName := ⟨"RunsFinder", "length", "()I"⟩
abbrev b_X_symbol : ByteArray := prog_1_method_8_code
def y_X_symbol : MethodName := ⟨"RunsFinder", "symbol", "(I)I"⟩
abbrev b_X_runs : ByteArray := prog_1_method_9_code
def y_X_runs : MethodName := ⟨"RunsFinder", "runs", "()I"⟩
abbrev b_X_refresh : ByteArray := prog_1_method_27_code
def y_X_refresh : MethodName := ⟨"RunsFinder", "refresh", "()V"⟩
abbrev b_X_findEndings : ByteArray := prog_1_method_26_code
def y_X_findEndings : MethodName := ⟨"RunsFinder", "findEndings", "(Z)V"⟩
abbrev b_X_comesBefore : ByteArray := prog_1_method_25_code
def y_X_comesBefore : MethodName := ⟨"RunsFinder", "comesBefore", "(IIZ)Z"⟩
abbrev b_X_forward : ByteArray := prog_1_method_23_code
def y_X_forward : MethodName := ⟨"RunsFinder", "forward", "(II)I"⟩
abbrev b_X_widen : ByteArray := prog_1_method_28_code
def y_X_widen : MethodName := ⟨"RunsFinder", "widen", "(II)V"⟩
abbrev b_X_backward : ByteArray := prog_1_method_24_code
def y_X_backward : MethodName := ⟨"RunsFinder", "backward", "(II)I"⟩
abbrev b_X_insert : ByteArray := prog_1_method_29_code
def y_X_insert : MethodName := ⟨"RunsFinder", "insert", "(III)V"⟩
abbrev b_X_start : ByteArray := prog_1_method_10_code
def y_X_start : MethodName := ⟨"RunsFinder", "start", "(I)I"⟩
abbrev b_X_isRun : ByteArray := prog_1_method_22_code
def y_X_isRun : MethodName := ⟨"RunsFinder", "isRun", "(I)Z"⟩
abbrev b_X_end : ByteArray := prog_1_method_11_code
def y_X_end : MethodName := ⟨"RunsFinder", "end", "(I)I"⟩
abbrev b_X_period : ByteArray := prog_1_method_12_code
def y_X_period : MethodName := ⟨"RunsFinder", "period", "(I)I"⟩
abbrev b_X_runsAt : ByteArray := prog_1_method_13_code
def y_X_runsAt : MethodName := ⟨"RunsFinder", "runsAt", "(I)I"⟩
abbrev b_X_squaresFrom : ByteArray := prog_1_method_14_code
def y_X_squaresFrom : MethodName := ⟨"RunsFinder", "squaresFrom", "(I)I"⟩
abbrev b_X_squares : ByteArray := prog_1_method_15_code
def y_X_squares : MethodName := ⟨"RunsFinder", "squares", "()I"⟩
abbrev b_X_periodOf : ByteArray := prog_1_method_16_code
def y_X_periodOf : MethodName := ⟨"RunsFinder", "periodOf", "(II)I"⟩
abbrev b_X_longest : ByteArray := prog_1_method_17_code
def y_X_longest : MethodName := ⟨"RunsFinder", "longest", "()I"⟩
abbrev b_X_power : ByteArray := prog_1_method_18_code
def y_X_power : MethodName := ⟨"RunsFinder", "power", "()I"⟩
abbrev b_X_common : ByteArray := prog_1_method_19_code
def y_X_common : MethodName := ⟨"RunsFinder", "common", "(II)I"⟩
abbrev b_X_nextSmaller : ByteArray := prog_1_method_20_code
def y_X_nextSmaller : MethodName := ⟨"RunsFinder", "nextSmaller", "(I)I"⟩
abbrev b_M_init : ByteArray := prog_3_method_1_code
def y_M_init : MethodName := ⟨"RunsFinderModel", "<init>", "()V"⟩
abbrev b_M_push : ByteArray := prog_3_method_3_code
def y_M_push : MethodName := ⟨"RunsFinderModel", "push", "(I)I"⟩
abbrev b_M_pop : ByteArray := prog_3_method_4_code
def y_M_pop : MethodName := ⟨"RunsFinderModel", "pop", "(I)I"⟩
abbrev b_M_repeat : ByteArray := prog_3_method_5_code
def y_M_repeat : MethodName := ⟨"RunsFinderModel", "repeat", "(II)I"⟩
abbrev b_M_bad : ByteArray := prog_3_method_2_code
def y_M_bad : MethodName := ⟨"RunsFinderModel", "bad", "(I)Z"⟩
abbrev b_M_set : ByteArray := prog_3_method_6_code
def y_M_set : MethodName := ⟨"RunsFinderModel", "set", "(II)I"⟩
abbrev b_M_reverse : ByteArray := prog_3_method_7_code
def y_M_reverse : MethodName := ⟨"RunsFinderModel", "reverse", "()I"⟩
abbrev b_M_length : ByteArray := prog_3_method_8_code
def y_M_length : MethodName := ⟨"RunsFinderModel", "length", "()I"⟩
abbrev b_M_symbol : ByteArray := prog_3_method_9_code
def y_M_symbol : MethodName := ⟨"RunsFinderModel", "symbol", "(I)I"⟩
abbrev b_M_runs : ByteArray := prog_3_method_14_code
def y_M_runs : MethodName := ⟨"RunsFinderModel", "runs", "()I"⟩
abbrev b_M_list : ByteArray := prog_3_method_13_code
def y_M_list : MethodName := ⟨"RunsFinderModel", "list", "()V"⟩
abbrev b_M_runFrom : ByteArray := prog_3_method_12_code
def y_M_runFrom : MethodName := ⟨"RunsFinderModel", "runFrom", "(II)I"⟩
abbrev b_M_hasPeriod : ByteArray := prog_3_method_10_code
def y_M_hasPeriod : MethodName := ⟨"RunsFinderModel", "hasPeriod", "(III)Z"⟩
abbrev b_M_leastPeriod : ByteArray := prog_3_method_11_code
def y_M_leastPeriod : MethodName := ⟨"RunsFinderModel", "leastPeriod", "(II)I"⟩
abbrev b_M_start : ByteArray := prog_3_method_15_code
def y_M_start : MethodName := ⟨"RunsFinderModel", "start", "(I)I"⟩
abbrev b_M_end : ByteArray := prog_3_method_16_code
def y_M_end : MethodName := ⟨"RunsFinderModel", "end", "(I)I"⟩
abbrev b_M_period : ByteArray := prog_3_method_17_code
def y_M_period : MethodName := ⟨"RunsFinderModel", "period", "(I)I"⟩
abbrev b_M_runsAt : ByteArray := prog_3_method_18_code
def y_M_runsAt : MethodName := ⟨"RunsFinderModel", "runsAt", "(I)I"⟩
abbrev b_M_squaresFrom : ByteArray := prog_3_method_19_code
def y_M_squaresFrom : MethodName := ⟨"RunsFinderModel", "squaresFrom", "(I)I"⟩
abbrev b_M_squares : ByteArray := prog_3_method_20_code
def y_M_squares : MethodName := ⟨"RunsFinderModel", "squares", "()I"⟩
abbrev b_M_periodOf : ByteArray := prog_3_method_21_code
def y_M_periodOf : MethodName := ⟨"RunsFinderModel", "periodOf", "(II)I"⟩
abbrev b_M_longest : ByteArray := prog_3_method_22_code
def y_M_longest : MethodName := ⟨"RunsFinderModel", "longest", "()I"⟩
abbrev b_M_power : ByteArray := prog_3_method_23_code
def y_M_power : MethodName := ⟨"RunsFinderModel", "power", "()I"⟩
abbrev b_M_common : ByteArray := prog_3_method_25_code
def y_M_common : MethodName := ⟨"RunsFinderModel", "common", "(II)I"⟩
abbrev b_M_shared : ByteArray := prog_3_method_24_code
def y_M_shared : MethodName := ⟨"RunsFinderModel", "shared", "(II)I"⟩
abbrev b_M_nextSmaller : ByteArray := prog_3_method_26_code
def y_M_nextSmaller : MethodName := ⟨"RunsFinderModel", "nextSmaller", "(I)I"⟩
theorem k_L_X_push : lw_M "RunsFinderLaw" 13 y_X_push b_X_push 2 (some .int) := ⟨lw_in 52 rfl rfl, lw_in 53 rfl rfl, lw_in 54 rfl rfl, lw_in 16 rfl rfl, lw_in 55 rfl rfl⟩
theorem k_L_X_pop : lw_M "RunsFinderLaw" 18 y_X_pop b_X_pop 2 (some .int) := ⟨lw_in 56 rfl rfl, lw_in 57 rfl rfl, lw_in 58 rfl rfl, lw_in 16 rfl rfl, lw_in 59 rfl rfl⟩
theorem k_L_X_repeat : lw_M "RunsFinderLaw" 22 y_X_repeat b_X_repeat 4 (some .int) := ⟨lw_in 60 rfl rfl, lw_in 61 rfl rfl, lw_in 62 rfl rfl, lw_in 16 rfl rfl, lw_in 63 rfl rfl⟩
theorem k_X_X_isPlace : lw_M "RunsFinder" 33 y_X_isPlace b_X_isPlace 2 (some .boolean) := ⟨lw_in 64 rfl rfl, lw_in 66 rfl rfl, lw_in 0 rfl rfl, lw_in 16 rfl rfl, lw_in 67 rfl rfl⟩
theorem k_L_X_set : lw_M "RunsFinderLaw" 27 y_X_set b_X_set 4 (some .int) := ⟨lw_in 68 rfl rfl, lw_in 69 rfl rfl, lw_in 70 rfl rfl, lw_in 16 rfl rfl, lw_in 71 rfl rfl⟩
theorem k_L_X_reverse : lw_M "RunsFinderLaw" 31 y_X_reverse b_X_reverse 4 (some .int) := ⟨lw_in 72 rfl rfl, lw_in 73 rfl rfl, lw_in 74 rfl rfl, lw_in 16 rfl rfl, lw_in 75 rfl rfl⟩
theorem k_L_X_length : lw_M "RunsFinderLaw" 36 y_X_length b_X_length 1 (some .int) := ⟨lw_in 76 rfl rfl, lw_in 77 rfl rfl, lw_in 78 rfl rfl, lw_in 16 rfl rfl, lw_in 79 rfl rfl⟩
theorem k_L_X_symbol : lw_M "RunsFinderLaw" 40 y_X_symbol b_X_symbol 2 (some .int) := ⟨lw_in 80 rfl rfl, lw_in 81 rfl rfl, lw_in 82 rfl rfl, lw_in 16 rfl rfl, lw_in 83 rfl rfl⟩
theorem k_L_X_runs : lw_M "RunsFinderLaw" 44 y_X_runs b_X_runs 1 (some .int) := ⟨lw_in 84 rfl rfl, lw_in 85 rfl rfl, lw_in 86 rfl rfl, lw_in 16 rfl rfl, lw_in 87 rfl rfl⟩
theorem k_X_X_refresh : lw_M "RunsFinder" 37 y_X_refresh b_X_refresh 3 none := ⟨lw_in 88 rfl rfl, lw_in 90 rfl rfl, lw_in 1 rfl rfl, lw_in 16 rfl rfl, lw_in 91 rfl rfl⟩
theorem k_X_X_findEndings : lw_M "RunsFinder" 50 y_X_findEndings b_X_findEndings 6 none := ⟨lw_in 92 rfl rfl, lw_in 94 rfl rfl, lw_in 2 rfl rfl, lw_in 16 rfl rfl, lw_in 95 rfl rfl⟩
theorem k_X_X_comesBefore : lw_M "RunsFinder" 54 y_X_comesBefore b_X_comesBefore 5 (some .boolean) := ⟨lw_in 96 rfl rfl, lw_in 98 rfl rfl, lw_in 3 rfl rfl, lw_in 16 rfl rfl, lw_in 99 rfl rfl⟩
theorem k_X_X_forward : lw_M "RunsFinder" 46 y_X_forward b_X_forward 4 (some .int) := ⟨lw_in 100 rfl rfl, lw_in 102 rfl rfl, lw_in 4 rfl rfl, lw_in 16 rfl rfl, lw_in 103 rfl rfl⟩
theorem k_X_X_widen : lw_M "RunsFinder" 58 y_X_widen b_X_widen 6 none := ⟨lw_in 104 rfl rfl, lw_in 106 rfl rfl, lw_in 5 rfl rfl, lw_in 16 rfl rfl, lw_in 107 rfl rfl⟩
theorem k_X_X_backward : lw_M "RunsFinder" 62 y_X_backward b_X_backward 4 (some .int) := ⟨lw_in 108 rfl rfl, lw_in 110 rfl rfl, lw_in 6 rfl rfl, lw_in 16 rfl rfl, lw_in 111 rfl rfl⟩
theorem k_X_X_insert : lw_M "RunsFinder" 65 y_X_insert b_X_insert 6 none := ⟨lw_in 112 rfl rfl, lw_in 114 rfl rfl, lw_in 7 rfl rfl, lw_in 16 rfl rfl, lw_in 115 rfl rfl⟩
theorem k_L_X_start : lw_M "RunsFinderLaw" 48 y_X_start b_X_start 2 (some .int) := ⟨lw_in 116 rfl rfl, lw_in 117 rfl rfl, lw_in 118 rfl rfl, lw_in 16 rfl rfl, lw_in 119 rfl rfl⟩
theorem k_X_X_isRun : lw_M "RunsFinder" 43 y_X_isRun b_X_isRun 2 (some .boolean) := ⟨lw_in 120 rfl rfl, lw_in 122 rfl rfl, lw_in 8 rfl rfl, lw_in 16 rfl rfl, lw_in 123 rfl rfl⟩
theorem k_L_X_end : lw_M "RunsFinderLaw" 52 y_X_end b_X_end 2 (some .int) := ⟨lw_in 124 rfl rfl, lw_in 125 rfl rfl, lw_in 126 rfl rfl, lw_in 16 rfl rfl, lw_in 127 rfl rfl⟩
theorem k_L_X_period : lw_M "RunsFinderLaw" 56 y_X_period b_X_period 2 (some .int) := ⟨lw_in 128 rfl rfl, lw_in 129 rfl rfl, lw_in 130 rfl rfl, lw_in 16 rfl rfl, lw_in 131 rfl rfl⟩
theorem k_L_X_runsAt : lw_M "RunsFinderLaw" 60 y_X_runsAt b_X_runsAt 4 (some .int) := ⟨lw_in 132 rfl rfl, lw_in 133 rfl rfl, lw_in 134 rfl rfl, lw_in 16 rfl rfl, lw_in 135 rfl rfl⟩
theorem k_L_X_squaresFrom : lw_M "RunsFinderLaw" 64 y_X_squaresFrom b_X_squaresFrom 4 (some .int) := ⟨lw_in 136 rfl rfl, lw_in 137 rfl rfl, lw_in 138 rfl rfl, lw_in 16 rfl rfl, lw_in 139 rfl rfl⟩
theorem k_L_X_squares : lw_M "RunsFinderLaw" 68 y_X_squares b_X_squares 5 (some .int) := ⟨lw_in 140 rfl rfl, lw_in 141 rfl rfl, lw_in 142 rfl rfl, lw_in 16 rfl rfl, lw_in 143 rfl rfl⟩
theorem k_L_X_periodOf : lw_M "RunsFinderLaw" 72 y_X_periodOf b_X_periodOf 6 (some .int) := ⟨lw_in 144 rfl rfl, lw_in 145 rfl rfl, lw_in 146 rfl rfl, lw_in 16 rfl rfl, lw_in 147 rfl rfl⟩
theorem k_L_X_longest : lw_M "RunsFinderLaw" 76 y_X_longest b_X_longest 4 (some .int) := ⟨lw_in 148 rfl rfl, lw_in 149 rfl rfl, lw_in 150 rfl rfl, lw_in 16 rfl rfl, lw_in 151 rfl rfl⟩
theorem k_L_X_power : lw_M "RunsFinderLaw" 80 y_X_power b_X_power 5 (some .int) := ⟨lw_in 152 rfl rfl, lw_in 153 rfl rfl, lw_in 154 rfl rfl, lw_in 16 rfl rfl, lw_in 155 rfl rfl⟩
theorem k_L_X_common : lw_M "RunsFinderLaw" 84 y_X_common b_X_common 3 (some .int) := ⟨lw_in 156 rfl rfl, lw_in 157 rfl rfl, lw_in 158 rfl rfl, lw_in 16 rfl rfl, lw_in 159 rfl rfl⟩
theorem k_L_X_nextSmaller : lw_M "RunsFinderLaw" 88 y_X_nextSmaller b_X_nextSmaller 2 (some .int) := ⟨lw_in 160 rfl rfl, lw_in 161 rfl rfl, lw_in 162 rfl rfl, lw_in 16 rfl rfl, lw_in 163 rfl rfl⟩
theorem k_L_M_push : lw_M "RunsFinderLaw" 17 y_M_push b_M_push 3 (some .int) := ⟨lw_in 192 rfl rfl, lw_in 193 rfl rfl, lw_in 194 rfl rfl, lw_in 17 rfl rfl, lw_in 195 rfl rfl⟩
theorem k_L_M_pop : lw_M "RunsFinderLaw" 21 y_M_pop b_M_pop 2 (some .int) := ⟨lw_in 196 rfl rfl, lw_in 197 rfl rfl, lw_in 198 rfl rfl, lw_in 17 rfl rfl, lw_in 199 rfl rfl⟩
theorem k_L_M_repeat : lw_M "RunsFinderLaw" 26 y_M_repeat b_M_repeat 5 (some .int) := ⟨lw_in 200 rfl rfl, lw_in 201 rfl rfl, lw_in 202 rfl rfl, lw_in 17 rfl rfl, lw_in 203 rfl rfl⟩
theorem k_M_M_bad : lw_M "RunsFinderModel" 29 y_M_bad b_M_bad 2 (some .boolean) := ⟨lw_in 204 rfl rfl, lw_in 206 rfl rfl, lw_in 9 rfl rfl, lw_in 17 rfl rfl, lw_in 207 rfl rfl⟩
theorem k_L_M_set : lw_M "RunsFinderLaw" 30 y_M_set b_M_set 4 (some .int) := ⟨lw_in 208 rfl rfl, lw_in 209 rfl rfl, lw_in 210 rfl rfl, lw_in 17 rfl rfl, lw_in 211 rfl rfl⟩
theorem k_L_M_reverse : lw_M "RunsFinderLaw" 35 y_M_reverse b_M_reverse 2 (some .int) := ⟨lw_in 212 rfl rfl, lw_in 213 rfl rfl, lw_in 214 rfl rfl, lw_in 17 rfl rfl, lw_in 215 rfl rfl⟩
theorem k_L_M_length : lw_M "RunsFinderLaw" 39 y_M_length b_M_length 1 (some .int) := ⟨lw_in 216 rfl rfl, lw_in 217 rfl rfl, lw_in 218 rfl rfl, lw_in 17 rfl rfl, lw_in 219 rfl rfl⟩
theorem k_L_M_symbol : lw_M "RunsFinderLaw" 43 y_M_symbol b_M_symbol 2 (some .int) := ⟨lw_in 220 rfl rfl, lw_in 221 rfl rfl, lw_in 222 rfl rfl, lw_in 17 rfl rfl, lw_in 223 rfl rfl⟩
theorem k_L_M_runs : lw_M "RunsFinderLaw" 47 y_M_runs b_M_runs 1 (some .int) := ⟨lw_in 224 rfl rfl, lw_in 225 rfl rfl, lw_in 226 rfl rfl, lw_in 17 rfl rfl, lw_in 227 rfl rfl⟩
theorem k_M_M_list : lw_M "RunsFinderModel" 47 y_M_list b_M_list 4 none := ⟨lw_in 228 rfl rfl, lw_in 230 rfl rfl, lw_in 10 rfl rfl, lw_in 17 rfl rfl, lw_in 231 rfl rfl⟩
theorem k_M_M_runFrom : lw_M "RunsFinderModel" 44 y_M_runFrom b_M_runFrom 4 (some .int) := ⟨lw_in 232 rfl rfl, lw_in 234 rfl rfl, lw_in 11 rfl rfl, lw_in 17 rfl rfl, lw_in 235 rfl rfl⟩
theorem k_M_M_hasPeriod : lw_M "RunsFinderModel" 33 y_M_hasPeriod b_M_hasPeriod 5 (some .boolean) := ⟨lw_in 236 rfl rfl, lw_in 238 rfl rfl, lw_in 12 rfl rfl, lw_in 17 rfl rfl, lw_in 239 rfl rfl⟩
theorem k_M_M_leastPeriod : lw_M "RunsFinderModel" 37 y_M_leastPeriod b_M_leastPeriod 4 (some .int) := ⟨lw_in 240 rfl rfl, lw_in 242 rfl rfl, lw_in 13 rfl rfl, lw_in 17 rfl rfl, lw_in 243 rfl rfl⟩
theorem k_L_M_start : lw_M "RunsFinderLaw" 51 y_M_start b_M_start 2 (some .int) := ⟨lw_in 244 rfl rfl, lw_in 245 rfl rfl, lw_in 246 rfl rfl, lw_in 17 rfl rfl, lw_in 247 rfl rfl⟩
theorem k_L_M_end : lw_M "RunsFinderLaw" 55 y_M_end b_M_end 2 (some .int) := ⟨lw_in 248 rfl rfl, lw_in 249 rfl rfl, lw_in 250 rfl rfl, lw_in 17 rfl rfl, lw_in 251 rfl rfl⟩
theorem k_L_M_period : lw_M "RunsFinderLaw" 59 y_M_period b_M_period 2 (some .int) := ⟨lw_in 252 rfl rfl, lw_in 253 rfl rfl, lw_in 254 rfl rfl, lw_in 17 rfl rfl, lw_in 255 rfl rfl⟩
theorem k_L_M_runsAt : lw_M "RunsFinderLaw" 63 y_M_runsAt b_M_runsAt 4 (some .int) := ⟨lw_in 256 rfl rfl, lw_in 257 rfl rfl, lw_in 258 rfl rfl, lw_in 17 rfl rfl, lw_in 259 rfl rfl⟩
theorem k_L_M_squaresFrom : lw_M "RunsFinderLaw" 67 y_M_squaresFrom b_M_squaresFrom 4 (some .int) := ⟨lw_in 260 rfl rfl, lw_in 261 rfl rfl, lw_in 262 rfl rfl, lw_in 17 rfl rfl, lw_in 263 rfl rfl⟩
theorem k_L_M_squares : lw_M "RunsFinderLaw" 71 y_M_squares b_M_squares 4 (some .int) := ⟨lw_in 264 rfl rfl, lw_in 265 rfl rfl, lw_in 266 rfl rfl, lw_in 17 rfl rfl, lw_in 267 rfl rfl⟩
theorem k_L_M_periodOf : lw_M "RunsFinderLaw" 75 y_M_periodOf b_M_periodOf 4 (some .int) := ⟨lw_in 268 rfl rfl, lw_in 269 rfl rfl, lw_in 270 rfl rfl, lw_in 17 rfl rfl, lw_in 271 rfl rfl⟩
theorem k_L_M_longest : lw_M "RunsFinderLaw" 79 y_M_longest b_M_longest 4 (some .int) := ⟨lw_in 272 rfl rfl, lw_in 273 rfl rfl, lw_in 274 rfl rfl, lw_in 17 rfl rfl, lw_in 275 rfl rfl⟩
theorem k_L_M_power : lw_M "RunsFinderLaw" 83 y_M_power b_M_power 5 (some .int) := ⟨lw_in 276 rfl rfl, lw_in 277 rfl rfl, lw_in 278 rfl rfl, lw_in 17 rfl rfl, lw_in 279 rfl rfl⟩
theorem k_L_M_common : lw_M "RunsFinderLaw" 87 y_M_common b_M_common 3 (some .int) := ⟨lw_in 280 rfl rfl, lw_in 281 rfl rfl, lw_in 282 rfl rfl, lw_in 17 rfl rfl, lw_in 283 rfl rfl⟩
theorem k_M_M_shared : lw_M "RunsFinderModel" 50 y_M_shared b_M_shared 4 (some .int) := ⟨lw_in 284 rfl rfl, lw_in 286 rfl rfl, lw_in 14 rfl rfl, lw_in 17 rfl rfl, lw_in 287 rfl rfl⟩
theorem k_L_M_nextSmaller : lw_M "RunsFinderLaw" 91 y_M_nextSmaller b_M_nextSmaller 4 (some .int) := ⟨lw_in 288 rfl rfl, lw_in 289 rfl rfl, lw_in 290 rfl rfl, lw_in 17 rfl rfl, lw_in 291 rfl rfl⟩
theorem fl_X_text : Cond.fieldLink "RunsFinder" 7 "RunsFinder" "text" "[I" ∈ lw_gt := lw_in 26 rfl rfl
theorem fl_X_after : Cond.fieldLink "RunsFinder" 13 "RunsFinder" "after" "[I" ∈ lw_gt := lw_in 27 rfl rfl
theorem fl_X_first : Cond.fieldLink "RunsFinder" 16 "RunsFinder" "first" "[I" ∈ lw_gt := lw_in 28 rfl rfl
theorem fl_X_last : Cond.fieldLink "RunsFinder" 19 "RunsFinder" "last" "[I" ∈ lw_gt := lw_in 29 rfl rfl
theorem fl_X_step : Cond.fieldLink "RunsFinder" 22 "RunsFinder" "step" "[I" ∈ lw_gt := lw_in 30 rfl rfl
theorem fl_X_length : Cond.fieldLink "RunsFinder" 25 "RunsFinder" "length" "I" ∈ lw_gt := lw_in 31 rfl rfl
theorem fl_X_runCount : Cond.fieldLink "RunsFinder" 40 "RunsFinder" "runCount" "I" ∈ lw_gt := lw_in 32 rfl rfl
theorem fl_X_current : Cond.fieldLink "RunsFinder" 29 "RunsFinder" "current" "Z" ∈ lw_gt := lw_in 33 rfl rfl
theorem li_X_init : Cond.methodLink "RunsFinderLaw" 9 y_X_init ∈ lw_gt := lw_in 20 rfl rfl
theorem ii_X_init : Cond.instanceMethod y_X_init ∈ lw_gt := lw_in 21 rfl rfl
theorem ci_X_init : Cond.code y_X_init b_X_init 1 none ∈ lw_gt := lw_in 22 rfl rfl
theorem ni_X : Cond.initialized "RunsFinder" ∈ lw_gt := lw_in 16 rfl rfl
theorem ob_X : Cond.methodLink "RunsFinder" 1 objectInit ∈ lw_gt := lw_in 23 rfl rfl
theorem fl_M_length : Cond.fieldLink "RunsFinderModel" 25 "RunsFinderModel" "length" "I" ∈ lw_gt := lw_in 170 rfl rfl
theorem fl_M_text : Cond.fieldLink "RunsFinderModel" 7 "RunsFinderModel" "text" "[I" ∈ lw_gt := lw_in 171 rfl rfl
theorem fl_M_copy : Cond.fieldLink "RunsFinderModel" 13 "RunsFinderModel" "copy" "[I" ∈ lw_gt := lw_in 172 rfl rfl
theorem fl_M_found : Cond.fieldLink "RunsFinderModel" 41 "RunsFinderModel" "found" "I" ∈ lw_gt := lw_in 173 rfl rfl
theorem fl_M_first : Cond.fieldLink "RunsFinderModel" 16 "RunsFinderModel" "first" "[I" ∈ lw_gt := lw_in 174 rfl rfl
theorem fl_M_last : Cond.fieldLink "RunsFinderModel" 19 "RunsFinderModel" "last" "[I" ∈ lw_gt := lw_in 175 rfl rfl
theorem fl_M_least : Cond.fieldLink "RunsFinderModel" 22 "RunsFinderModel" "least" "[I" ∈ lw_gt := lw_in 176 rfl rfl
theorem li_M_init : Cond.methodLink "RunsFinderLaw" 12 y_M_init ∈ lw_gt := lw_in 166 rfl rfl
theorem ii_M_init : Cond.instanceMethod y_M_init ∈ lw_gt := lw_in 167 rfl rfl
theorem ci_M_init : Cond.code y_M_init b_M_init 1 none ∈ lw_gt := lw_in 168 rfl rfl
theorem ni_M : Cond.initialized "RunsFinderModel" ∈ lw_gt := lw_in 17 rfl rfl
theorem ob_M : Cond.methodLink "RunsFinderModel" 1 objectInit ∈ lw_gt := lw_in 169 rfl rfl
theorem ob_inst : Cond.instanceMethod objectInit ∈ lw_gt := lw_in 24 rfl rfl
theorem ob_code : Cond.code objectInit ⟨#[0xb1]⟩ 1 none ∈ lw_gt := lw_in 25 rfl rfl
end
section
theorem d_X_init_0 : decode b_X_init 0 = .ok (.aload_n 0, 1) := by decide +kernel
theorem d_X_init_1 : decode b_X_init 1 = .ok (.invokespecial 1, 3) := by decide +kernel
theorem d_X_init_4 : decode b_X_init 4 = .ok (.aload_n 0, 1) := by decide +kernel
theorem d_X_init_5 : decode b_X_init 5 = .ok (.bipush 48, 2) := by decide +kernel
theorem d_X_init_7 : decode b_X_init 7 = .ok (.newarray .int, 2) := by decide +kernel
theorem d_X_init_9 : decode b_X_init 9 = .ok (.putfield 7, 3) := by decide +kernel
theorem d_X_init_12 : decode b_X_init 12 = .ok (.aload_n 0, 1) := by decide +kernel
theorem d_X_init_13 : decode b_X_init 13 = .ok (.bipush 49, 2) := by decide +kernel
theorem d_X_init_15 : decode b_X_init 15 = .ok (.newarray .int, 2) := by decide +kernel
theorem d_X_init_17 : decode b_X_init 17 = .ok (.putfield 13, 3) := by decide +kernel
theorem d_X_init_20 : decode b_X_init 20 = .ok (.aload_n 0, 1) := by decide +kernel
theorem d_X_init_21 : decode b_X_init 21 = .ok (.bipush 100, 2) := by decide +kernel
theorem d_X_init_23 : decode b_X_init 23 = .ok (.newarray .int, 2) := by decide +kernel
theorem d_X_init_25 : decode b_X_init 25 = .ok (.putfield 16, 3) := by decide +kernel
theorem d_X_init_28 : decode b_X_init 28 = .ok (.aload_n 0, 1) := by decide +kernel
theorem d_X_init_29 : decode b_X_init 29 = .ok (.bipush 100, 2) := by decide +kernel
theorem d_X_init_31 : decode b_X_init 31 = .ok (.newarray .int, 2) := by decide +kernel
theorem d_X_init_33 : decode b_X_init 33 = .ok (.putfield 19, 3) := by decide +kernel
theorem d_X_init_36 : decode b_X_init 36 = .ok (.aload_n 0, 1) := by decide +kernel
theorem d_X_init_37 : decode b_X_init 37 = .ok (.bipush 100, 2) := by decide +kernel
theorem d_X_init_39 : decode b_X_init 39 = .ok (.newarray .int, 2) := by decide +kernel
theorem d_X_init_41 : decode b_X_init 41 = .ok (.putfield 22, 3) := by decide +kernel
theorem d_X_init_44 : decode b_X_init 44 = .ok (.aload_n 0, 1) := by decide +kernel
theorem d_X_init_45 : decode b_X_init 45 = .ok (.iconst 0, 1) := by decide +kernel
theorem d_X_init_46 : decode b_X_init 46 = .ok (.putfield 25, 3) := by decide +kernel
theorem d_X_init_49 : decode b_X_init 49 = .ok (.return_, 1) := by decide +kernel
theorem d_X_push_0 : decode b_X_push 0 = .ok (.iload_n 1, 1) := by decide +kernel
theorem d_X_push_1 : decode b_X_push 1 = .ok (.ifCond .lt 8, 3) := by decide +kernel
theorem d_X_push_4 : decode b_X_push 4 = .ok (.iload_n 1, 1) := by decide +kernel
theorem d_X_push_5 : decode b_X_push 5 = .ok (.iconst 3, 1) := by decide +kernel
theorem d_X_push_6 : decode b_X_push 6 = .ok (.if_icmp .le 5, 3) := by decide +kernel
theorem d_X_push_9 : decode b_X_push 9 = .ok (.iconst (-1), 1) := by decide +kernel
theorem d_X_push_10 : decode b_X_push 10 = .ok (.ireturn, 1) := by decide +kernel
theorem d_X_push_11 : decode b_X_push 11 = .ok (.aload_n 0, 1) := by decide +kernel
theorem d_X_push_12 : decode b_X_push 12 = .ok (.getfield 25, 3) := by decide +kernel
theorem d_X_push_15 : decode b_X_push 15 = .ok (.bipush 48, 2) := by decide +kernel
theorem d_X_push_17 : decode b_X_push 17 = .ok (.if_icmp .ne 6, 3) := by decide +kernel
theorem d_X_push_20 : decode b_X_push 20 = .ok (.bipush (-2), 2) := by decide +kernel
theorem d_X_push_22 : decode b_X_push 22 = .ok (.ireturn, 1) := by decide +kernel
theorem d_X_push_23 : decode b_X_push 23 = .ok (.aload_n 0, 1) := by decide +kernel
theorem d_X_push_24 : decode b_X_push 24 = .ok (.getfield 7, 3) := by decide +kernel
theorem d_X_push_27 : decode b_X_push 27 = .ok (.aload_n 0, 1) := by decide +kernel
theorem d_X_push_28 : decode b_X_push 28 = .ok (.getfield 25, 3) := by decide +kernel
theorem d_X_push_31 : decode b_X_push 31 = .ok (.iload_n 1, 1) := by decide +kernel
theorem d_X_push_32 : decode b_X_push 32 = .ok (.iastore, 1) := by decide +kernel
theorem d_X_push_33 : decode b_X_push 33 = .ok (.aload_n 0, 1) := by decide +kernel
theorem d_X_push_34 : decode b_X_push 34 = .ok (.dup, 1) := by decide +kernel
theorem d_X_push_35 : decode b_X_push 35 = .ok (.getfield 25, 3) := by decide +kernel
theorem d_X_push_38 : decode b_X_push 38 = .ok (.iconst 1, 1) := by decide +kernel
theorem d_X_push_39 : decode b_X_push 39 = .ok (.iadd, 1) := by decide +kernel
theorem d_X_push_40 : decode b_X_push 40 = .ok (.putfield 25, 3) := by decide +kernel
theorem d_X_push_43 : decode b_X_push 43 = .ok (.aload_n 0, 1) := by decide +kernel
theorem d_X_push_44 : decode b_X_push 44 = .ok (.iconst 0, 1) := by decide +kernel
theorem d_X_push_45 : decode b_X_push 45 = .ok (.putfield 29, 3) := by decide +kernel
theorem d_X_push_48 : decode b_X_push 48 = .ok (.aload_n 0, 1) := by decide +kernel
theorem d_X_push_49 : decode b_X_push 49 = .ok (.getfield 25, 3) := by decide +kernel
theorem d_X_push_52 : decode b_X_push 52 = .ok (.ireturn, 1) := by decide +kernel
theorem d_X_pop_0 : decode b_X_pop 0 = .ok (.iload_n 1, 1) := by decide +kernel
theorem d_X_pop_1 : decode b_X_pop 1 = .ok (.ifCond .lt 11, 3) := by decide +kernel
theorem d_X_pop_4 : decode b_X_pop 4 = .ok (.iload_n 1, 1) := by decide +kernel
theorem d_X_pop_5 : decode b_X_pop 5 = .ok (.aload_n 0, 1) := by decide +kernel
theorem d_X_pop_6 : decode b_X_pop 6 = .ok (.getfield 25, 3) := by decide +kernel
theorem d_X_pop_9 : decode b_X_pop 9 = .ok (.if_icmp .le 5, 3) := by decide +kernel
theorem d_X_pop_12 : decode b_X_pop 12 = .ok (.iconst (-1), 1) := by decide +kernel
theorem d_X_pop_13 : decode b_X_pop 13 = .ok (.ireturn, 1) := by decide +kernel
theorem d_X_pop_14 : decode b_X_pop 14 = .ok (.aload_n 0, 1) := by decide +kernel
theorem d_X_pop_15 : decode b_X_pop 15 = .ok (.dup, 1) := by decide +kernel
theorem d_X_pop_16 : decode b_X_pop 16 = .ok (.getfield 25, 3) := by decide +kernel
theorem d_X_pop_19 : decode b_X_pop 19 = .ok (.iload_n 1, 1) := by decide +kernel
theorem d_X_pop_20 : decode b_X_pop 20 = .ok (.isub, 1) := by decide +kernel
theorem d_X_pop_21 : decode b_X_pop 21 = .ok (.putfield 25, 3) := by decide +kernel
theorem d_X_pop_24 : decode b_X_pop 24 = .ok (.aload_n 0, 1) := by decide +kernel
theorem d_X_pop_25 : decode b_X_pop 25 = .ok (.iconst 0, 1) := by decide +kernel
theorem d_X_pop_26 : decode b_X_pop 26 = .ok (.putfield 29, 3) := by decide +kernel
theorem d_X_pop_29 : decode b_X_pop 29 = .ok (.aload_n 0, 1) := by decide +kernel
theorem d_X_pop_30 : decode b_X_pop 30 = .ok (.getfield 25, 3) := by decide +kernel
theorem d_X_pop_33 : decode b_X_pop 33 = .ok (.ireturn, 1) := by decide +kernel
theorem d_X_repeat_0 : decode b_X_repeat 0 = .ok (.aload_n 0, 1) := by decide +kernel
theorem d_X_repeat_1 : decode b_X_repeat 1 = .ok (.iload_n 1, 1) := by decide +kernel
theorem d_X_repeat_2 : decode b_X_repeat 2 = .ok (.invokevirtual 33, 3) := by decide +kernel
theorem d_X_repeat_5 : decode b_X_repeat 5 = .ok (.ifCond .ne 5, 3) := by decide +kernel
theorem d_X_repeat_8 : decode b_X_repeat 8 = .ok (.iconst (-1), 1) := by decide +kernel
theorem d_X_repeat_9 : decode b_X_repeat 9 = .ok (.ireturn, 1) := by decide +kernel
theorem d_X_repeat_10 : decode b_X_repeat 10 = .ok (.iload_n 2, 1) := by decide +kernel
theorem d_X_repeat_11 : decode b_X_repeat 11 = .ok (.iconst 1, 1) := by decide +kernel
theorem d_X_repeat_12 : decode b_X_repeat 12 = .ok (.if_icmp .lt 9, 3) := by decide +kernel
theorem d_X_repeat_15 : decode b_X_repeat 15 = .ok (.iload_n 2, 1) := by decide +kernel
theorem d_X_repeat_16 : decode b_X_repeat 16 = .ok (.bipush 48, 2) := by decide +kernel
theorem d_X_repeat_18 : decode b_X_repeat 18 = .ok (.if_icmp .le 6, 3) := by decide +kernel
theorem d_X_repeat_21 : decode b_X_repeat 21 = .ok (.bipush (-2), 2) := by decide +kernel
theorem d_X_repeat_23 : decode b_X_repeat 23 = .ok (.ireturn, 1) := by decide +kernel
theorem d_X_repeat_24 : decode b_X_repeat 24 = .ok (.aload_n 0, 1) := by decide +kernel
theorem d_X_repeat_25 : decode b_X_repeat 25 = .ok (.getfield 25, 3) := by decide +kernel
theorem d_X_repeat_28 : decode b_X_repeat 28 = .ok (.iload_n 2, 1) := by decide +kernel
theorem d_X_repeat_29 : decode b_X_repeat 29 = .ok (.iadd, 1) := by decide +kernel
theorem d_X_repeat_30 : decode b_X_repeat 30 = .ok (.bipush 48, 2) := by decide +kernel
theorem d_X_repeat_32 : decode b_X_repeat 32 = .ok (.if_icmp .le 6, 3) := by decide +kernel
theorem d_X_repeat_35 : decode b_X_repeat 35 = .ok (.bipush (-3), 2) := by decide +kernel
theorem d_X_repeat_37 : decode b_X_repeat 37 = .ok (.ireturn, 1) := by decide +kernel
theorem d_X_repeat_38 : decode b_X_repeat 38 = .ok (.iconst 0, 1) := by decide +kernel
theorem d_X_repeat_39 : decode b_X_repeat 39 = .ok (.istore_n 3, 1) := by decide +kernel
theorem d_X_repeat_40 : decode b_X_repeat 40 = .ok (.iload_n 3, 1) := by decide +kernel
theorem d_X_repeat_41 : decode b_X_repeat 41 = .ok (.iload_n 2, 1) := by decide +kernel
theorem d_X_repeat_42 : decode b_X_repeat 42 = .ok (.if_icmp .ge 28, 3) := by decide +kernel
theorem d_X_repeat_45 : decode b_X_repeat 45 = .ok (.aload_n 0, 1) := by decide +kernel
theorem d_X_repeat_46 : decode b_X_repeat 46 = .ok (.getfield 7, 3) := by decide +kernel
theorem d_X_repeat_49 : decode b_X_repeat 49 = .ok (.aload_n 0, 1) := by decide +kernel
theorem d_X_repeat_50 : decode b_X_repeat 50 = .ok (.getfield 25, 3) := by decide +kernel
theorem d_X_repeat_53 : decode b_X_repeat 53 = .ok (.iload_n 3, 1) := by decide +kernel
theorem d_X_repeat_54 : decode b_X_repeat 54 = .ok (.iadd, 1) := by decide +kernel
theorem d_X_repeat_55 : decode b_X_repeat 55 = .ok (.aload_n 0, 1) := by decide +kernel
theorem d_X_repeat_56 : decode b_X_repeat 56 = .ok (.getfield 7, 3) := by decide +kernel
theorem d_X_repeat_59 : decode b_X_repeat 59 = .ok (.iload_n 1, 1) := by decide +kernel
theorem d_X_repeat_60 : decode b_X_repeat 60 = .ok (.iload_n 3, 1) := by decide +kernel
theorem d_X_repeat_61 : decode b_X_repeat 61 = .ok (.iadd, 1) := by decide +kernel
theorem d_X_repeat_62 : decode b_X_repeat 62 = .ok (.iaload, 1) := by decide +kernel
theorem d_X_repeat_63 : decode b_X_repeat 63 = .ok (.iastore, 1) := by decide +kernel
theorem d_X_repeat_64 : decode b_X_repeat 64 = .ok (.iinc 3 1, 3) := by decide +kernel
theorem d_X_repeat_67 : decode b_X_repeat 67 = .ok (.goto (-27), 3) := by decide +kernel
theorem d_X_repeat_70 : decode b_X_repeat 70 = .ok (.aload_n 0, 1) := by decide +kernel
theorem d_X_repeat_71 : decode b_X_repeat 71 = .ok (.dup, 1) := by decide +kernel
theorem d_X_repeat_72 : decode b_X_repeat 72 = .ok (.getfield 25, 3) := by decide +kernel
theorem d_X_repeat_75 : decode b_X_repeat 75 = .ok (.iload_n 2, 1) := by decide +kernel
theorem d_X_repeat_76 : decode b_X_repeat 76 = .ok (.iadd, 1) := by decide +kernel
theorem d_X_repeat_77 : decode b_X_repeat 77 = .ok (.putfield 25, 3) := by decide +kernel
theorem d_X_repeat_80 : decode b_X_repeat 80 = .ok (.aload_n 0, 1) := by decide +kernel
theorem d_X_repeat_81 : decode b_X_repeat 81 = .ok (.iconst 0, 1) := by decide +kernel
theorem d_X_repeat_82 : decode b_X_repeat 82 = .ok (.putfield 29, 3) := by decide +kernel
theorem d_X_repeat_85 : decode b_X_repeat 85 = .ok (.aload_n 0, 1) := by decide +kernel
theorem d_X_repeat_86 : decode b_X_repeat 86 = .ok (.getfield 25, 3) := by decide +kernel
theorem d_X_repeat_89 : decode b_X_repeat 89 = .ok (.ireturn, 1) := by decide +kernel
theorem d_X_set_0 : decode b_X_set 0 = .ok (.aload_n 0, 1) := by decide +kernel
theorem d_X_set_1 : decode b_X_set 1 = .ok (.iload_n 1, 1) := by decide +kernel
theorem d_X_set_2 : decode b_X_set 2 = .ok (.invokevirtual 33, 3) := by decide +kernel
theorem d_X_set_5 : decode b_X_set 5 = .ok (.ifCond .ne 5, 3) := by decide +kernel
theorem d_X_set_8 : decode b_X_set 8 = .ok (.iconst (-1), 1) := by decide +kernel
theorem d_X_set_9 : decode b_X_set 9 = .ok (.ireturn, 1) := by decide +kernel
theorem d_X_set_10 : decode b_X_set 10 = .ok (.iload_n 2, 1) := by decide +kernel
theorem d_X_set_11 : decode b_X_set 11 = .ok (.ifCond .lt 8, 3) := by decide +kernel
theorem d_X_set_14 : decode b_X_set 14 = .ok (.iload_n 2, 1) := by decide +kernel
theorem d_X_set_15 : decode b_X_set 15 = .ok (.iconst 3, 1) := by decide +kernel
theorem d_X_set_16 : decode b_X_set 16 = .ok (.if_icmp .le 6, 3) := by decide +kernel
theorem d_X_set_19 : decode b_X_set 19 = .ok (.bipush (-2), 2) := by decide +kernel
theorem d_X_set_21 : decode b_X_set 21 = .ok (.ireturn, 1) := by decide +kernel
theorem d_X_set_22 : decode b_X_set 22 = .ok (.aload_n 0, 1) := by decide +kernel
theorem d_X_set_23 : decode b_X_set 23 = .ok (.getfield 7, 3) := by decide +kernel
theorem d_X_set_26 : decode b_X_set 26 = .ok (.iload_n 1, 1) := by decide +kernel
theorem d_X_set_27 : decode b_X_set 27 = .ok (.iaload, 1) := by decide +kernel
theorem d_X_set_28 : decode b_X_set 28 = .ok (.istore_n 3, 1) := by decide +kernel
theorem d_X_set_29 : decode b_X_set 29 = .ok (.aload_n 0, 1) := by decide +kernel
theorem d_X_set_30 : decode b_X_set 30 = .ok (.getfield 7, 3) := by decide +kernel
theorem d_X_set_33 : decode b_X_set 33 = .ok (.iload_n 1, 1) := by decide +kernel
theorem d_X_set_34 : decode b_X_set 34 = .ok (.iload_n 2, 1) := by decide +kernel
theorem d_X_set_35 : decode b_X_set 35 = .ok (.iastore, 1) := by decide +kernel
theorem d_X_set_36 : decode b_X_set 36 = .ok (.aload_n 0, 1) := by decide +kernel
theorem d_X_set_37 : decode b_X_set 37 = .ok (.iconst 0, 1) := by decide +kernel
theorem d_X_set_38 : decode b_X_set 38 = .ok (.putfield 29, 3) := by decide +kernel
theorem d_X_set_41 : decode b_X_set 41 = .ok (.iload_n 3, 1) := by decide +kernel
theorem d_X_set_42 : decode b_X_set 42 = .ok (.ireturn, 1) := by decide +kernel
theorem d_X_reverse_0 : decode b_X_reverse 0 = .ok (.iconst 0, 1) := by decide +kernel
theorem d_X_reverse_1 : decode b_X_reverse 1 = .ok (.istore_n 1, 1) := by decide +kernel
theorem d_X_reverse_2 : decode b_X_reverse 2 = .ok (.iconst 2, 1) := by decide +kernel
theorem d_X_reverse_3 : decode b_X_reverse 3 = .ok (.iload_n 1, 1) := by decide +kernel
theorem d_X_reverse_4 : decode b_X_reverse 4 = .ok (.imul, 1) := by decide +kernel
theorem d_X_reverse_5 : decode b_X_reverse 5 = .ok (.aload_n 0, 1) := by decide +kernel
theorem d_X_reverse_6 : decode b_X_reverse 6 = .ok (.getfield 25, 3) := by decide +kernel
theorem d_X_reverse_9 : decode b_X_reverse 9 = .ok (.iconst 1, 1) := by decide +kernel
theorem d_X_reverse_10 : decode b_X_reverse 10 = .ok (.isub, 1) := by decide +kernel
theorem d_X_reverse_11 : decode b_X_reverse 11 = .ok (.if_icmp .ge 44, 3) := by decide +kernel
theorem d_X_reverse_14 : decode b_X_reverse 14 = .ok (.aload_n 0, 1) := by decide +kernel
theorem d_X_reverse_15 : decode b_X_reverse 15 = .ok (.getfield 25, 3) := by decide +kernel
theorem d_X_reverse_18 : decode b_X_reverse 18 = .ok (.iconst 1, 1) := by decide +kernel
theorem d_X_reverse_19 : decode b_X_reverse 19 = .ok (.isub, 1) := by decide +kernel
theorem d_X_reverse_20 : decode b_X_reverse 20 = .ok (.iload_n 1, 1) := by decide +kernel
theorem d_X_reverse_21 : decode b_X_reverse 21 = .ok (.isub, 1) := by decide +kernel
theorem d_X_reverse_22 : decode b_X_reverse 22 = .ok (.istore_n 2, 1) := by decide +kernel
theorem d_X_reverse_23 : decode b_X_reverse 23 = .ok (.aload_n 0, 1) := by decide +kernel
theorem d_X_reverse_24 : decode b_X_reverse 24 = .ok (.getfield 7, 3) := by decide +kernel
theorem d_X_reverse_27 : decode b_X_reverse 27 = .ok (.iload_n 1, 1) := by decide +kernel
theorem d_X_reverse_28 : decode b_X_reverse 28 = .ok (.iaload, 1) := by decide +kernel
theorem d_X_reverse_29 : decode b_X_reverse 29 = .ok (.istore_n 3, 1) := by decide +kernel
theorem d_X_reverse_30 : decode b_X_reverse 30 = .ok (.aload_n 0, 1) := by decide +kernel
theorem d_X_reverse_31 : decode b_X_reverse 31 = .ok (.getfield 7, 3) := by decide +kernel
theorem d_X_reverse_34 : decode b_X_reverse 34 = .ok (.iload_n 1, 1) := by decide +kernel
theorem d_X_reverse_35 : decode b_X_reverse 35 = .ok (.aload_n 0, 1) := by decide +kernel
theorem d_X_reverse_36 : decode b_X_reverse 36 = .ok (.getfield 7, 3) := by decide +kernel
theorem d_X_reverse_39 : decode b_X_reverse 39 = .ok (.iload_n 2, 1) := by decide +kernel
theorem d_X_reverse_40 : decode b_X_reverse 40 = .ok (.iaload, 1) := by decide +kernel
theorem d_X_reverse_41 : decode b_X_reverse 41 = .ok (.iastore, 1) := by decide +kernel
theorem d_X_reverse_42 : decode b_X_reverse 42 = .ok (.aload_n 0, 1) := by decide +kernel
theorem d_X_reverse_43 : decode b_X_reverse 43 = .ok (.getfield 7, 3) := by decide +kernel
theorem d_X_reverse_46 : decode b_X_reverse 46 = .ok (.iload_n 2, 1) := by decide +kernel
theorem d_X_reverse_47 : decode b_X_reverse 47 = .ok (.iload_n 3, 1) := by decide +kernel
theorem d_X_reverse_48 : decode b_X_reverse 48 = .ok (.iastore, 1) := by decide +kernel
theorem d_X_reverse_49 : decode b_X_reverse 49 = .ok (.iinc 1 1, 3) := by decide +kernel
theorem d_X_reverse_52 : decode b_X_reverse 52 = .ok (.goto (-50), 3) := by decide +kernel
theorem d_X_reverse_55 : decode b_X_reverse 55 = .ok (.aload_n 0, 1) := by decide +kernel
theorem d_X_reverse_56 : decode b_X_reverse 56 = .ok (.iconst 0, 1) := by decide +kernel
theorem d_X_reverse_57 : decode b_X_reverse 57 = .ok (.putfield 29, 3) := by decide +kernel
theorem d_X_reverse_60 : decode b_X_reverse 60 = .ok (.aload_n 0, 1) := by decide +kernel
theorem d_X_reverse_61 : decode b_X_reverse 61 = .ok (.getfield 25, 3) := by decide +kernel
theorem d_X_reverse_64 : decode b_X_reverse 64 = .ok (.ireturn, 1) := by decide +kernel
theorem d_X_length_0 : decode b_X_length 0 = .ok (.aload_n 0, 1) := by decide +kernel
theorem d_X_length_1 : decode b_X_length 1 = .ok (.getfield 25, 3) := by decide +kernel
theorem d_X_length_4 : decode b_X_length 4 = .ok (.ireturn, 1) := by decide +kernel
theorem d_X_symbol_0 : decode b_X_symbol 0 = .ok (.aload_n 0, 1) := by decide +kernel
theorem d_X_symbol_1 : decode b_X_symbol 1 = .ok (.iload_n 1, 1) := by decide +kernel
theorem d_X_symbol_2 : decode b_X_symbol 2 = .ok (.invokevirtual 33, 3) := by decide +kernel
theorem d_X_symbol_5 : decode b_X_symbol 5 = .ok (.ifCond .eq 12, 3) := by decide +kernel
theorem d_X_symbol_8 : decode b_X_symbol 8 = .ok (.aload_n 0, 1) := by decide +kernel
theorem d_X_symbol_9 : decode b_X_symbol 9 = .ok (.getfield 7, 3) := by decide +kernel
theorem d_X_symbol_12 : decode b_X_symbol 12 = .ok (.iload_n 1, 1) := by decide +kernel
theorem d_X_symbol_13 : decode b_X_symbol 13 = .ok (.iaload, 1) := by decide +kernel
theorem d_X_symbol_14 : decode b_X_symbol 14 = .ok (.goto 4, 3) := by decide +kernel
theorem d_X_symbol_17 : decode b_X_symbol 17 = .ok (.iconst (-1), 1) := by decide +kernel
theorem d_X_symbol_18 : decode b_X_symbol 18 = .ok (.ireturn, 1) := by decide +kernel
theorem d_X_runs_0 : decode b_X_runs 0 = .ok (.aload_n 0, 1) := by decide +kernel
theorem d_X_runs_1 : decode b_X_runs 1 = .ok (.invokevirtual 37, 3) := by decide +kernel
theorem d_X_runs_4 : decode b_X_runs 4 = .ok (.aload_n 0, 1) := by decide +kernel
theorem d_X_runs_5 : decode b_X_runs 5 = .ok (.getfield 40, 3) := by decide +kernel
theorem d_X_runs_8 : decode b_X_runs 8 = .ok (.ireturn, 1) := by decide +kernel
theorem d_X_start_0 : decode b_X_start 0 = .ok (.aload_n 0, 1) := by decide +kernel
theorem d_X_start_1 : decode b_X_start 1 = .ok (.invokevirtual 37, 3) := by decide +kernel
theorem d_X_start_4 : decode b_X_start 4 = .ok (.aload_n 0, 1) := by decide +kernel
theorem d_X_start_5 : decode b_X_start 5 = .ok (.iload_n 1, 1) := by decide +kernel
theorem d_X_start_6 : decode b_X_start 6 = .ok (.invokevirtual 43, 3) := by decide +kernel
theorem d_X_start_9 : decode b_X_start 9 = .ok (.ifCond .eq 12, 3) := by decide +kernel
theorem d_X_start_12 : decode b_X_start 12 = .ok (.aload_n 0, 1) := by decide +kernel
theorem d_X_start_13 : decode b_X_start 13 = .ok (.getfield 16, 3) := by decide +kernel
theorem d_X_start_16 : decode b_X_start 16 = .ok (.iload_n 1, 1) := by decide +kernel
theorem d_X_start_17 : decode b_X_start 17 = .ok (.iaload, 1) := by decide +kernel
theorem d_X_start_18 : decode b_X_start 18 = .ok (.goto 4, 3) := by decide +kernel
theorem d_X_start_21 : decode b_X_start 21 = .ok (.iconst (-1), 1) := by decide +kernel
theorem d_X_start_22 : decode b_X_start 22 = .ok (.ireturn, 1) := by decide +kernel
theorem d_X_end_0 : decode b_X_end 0 = .ok (.aload_n 0, 1) := by decide +kernel
theorem d_X_end_1 : decode b_X_end 1 = .ok (.invokevirtual 37, 3) := by decide +kernel
theorem d_X_end_4 : decode b_X_end 4 = .ok (.aload_n 0, 1) := by decide +kernel
theorem d_X_end_5 : decode b_X_end 5 = .ok (.iload_n 1, 1) := by decide +kernel
theorem d_X_end_6 : decode b_X_end 6 = .ok (.invokevirtual 43, 3) := by decide +kernel
theorem d_X_end_9 : decode b_X_end 9 = .ok (.ifCond .eq 12, 3) := by decide +kernel
theorem d_X_end_12 : decode b_X_end 12 = .ok (.aload_n 0, 1) := by decide +kernel
theorem d_X_end_13 : decode b_X_end 13 = .ok (.getfield 19, 3) := by decide +kernel
theorem d_X_end_16 : decode b_X_end 16 = .ok (.iload_n 1, 1) := by decide +kernel
theorem d_X_end_17 : decode b_X_end 17 = .ok (.iaload, 1) := by decide +kernel
theorem d_X_end_18 : decode b_X_end 18 = .ok (.goto 4, 3) := by decide +kernel
theorem d_X_end_21 : decode b_X_end 21 = .ok (.iconst (-1), 1) := by decide +kernel
theorem d_X_end_22 : decode b_X_end 22 = .ok (.ireturn, 1) := by decide +kernel
theorem d_X_period_0 : decode b_X_period 0 = .ok (.aload_n 0, 1) := by decide +kernel
theorem d_X_period_1 : decode b_X_period 1 = .ok (.invokevirtual 37, 3) := by decide +kernel
theorem d_X_period_4 : decode b_X_period 4 = .ok (.aload_n 0, 1) := by decide +kernel
theorem d_X_period_5 : decode b_X_period 5 = .ok (.iload_n 1, 1) := by decide +kernel
theorem d_X_period_6 : decode b_X_period 6 = .ok (.invokevirtual 43, 3) := by decide +kernel
theorem d_X_period_9 : decode b_X_period 9 = .ok (.ifCond .eq 12, 3) := by decide +kernel
theorem d_X_period_12 : decode b_X_period 12 = .ok (.aload_n 0, 1) := by decide +kernel
theorem d_X_period_13 : decode b_X_period 13 = .ok (.getfield 22, 3) := by decide +kernel
theorem d_X_period_16 : decode b_X_period 16 = .ok (.iload_n 1, 1) := by decide +kernel
theorem d_X_period_17 : decode b_X_period 17 = .ok (.iaload, 1) := by decide +kernel
theorem d_X_period_18 : decode b_X_period 18 = .ok (.goto 4, 3) := by decide +kernel
theorem d_X_period_21 : decode b_X_period 21 = .ok (.iconst (-1), 1) := by decide +kernel
theorem d_X_period_22 : decode b_X_period 22 = .ok (.ireturn, 1) := by decide +kernel
theorem d_X_runsAt_0 : decode b_X_runsAt 0 = .ok (.aload_n 0, 1) := by decide +kernel
theorem d_X_runsAt_1 : decode b_X_runsAt 1 = .ok (.iload_n 1, 1) := by decide +kernel
theorem d_X_runsAt_2 : decode b_X_runsAt 2 = .ok (.invokevirtual 33, 3) := by decide +kernel
theorem d_X_runsAt_5 : decode b_X_runsAt 5 = .ok (.ifCond .ne 5, 3) := by decide +kernel
theorem d_X_runsAt_8 : decode b_X_runsAt 8 = .ok (.iconst (-1), 1) := by decide +kernel
theorem d_X_runsAt_9 : decode b_X_runsAt 9 = .ok (.ireturn, 1) := by decide +kernel
theorem d_X_runsAt_10 : decode b_X_runsAt 10 = .ok (.aload_n 0, 1) := by decide +kernel
theorem d_X_runsAt_11 : decode b_X_runsAt 11 = .ok (.invokevirtual 37, 3) := by decide +kernel
theorem d_X_runsAt_14 : decode b_X_runsAt 14 = .ok (.iconst 0, 1) := by decide +kernel
theorem d_X_runsAt_15 : decode b_X_runsAt 15 = .ok (.istore_n 2, 1) := by decide +kernel
theorem d_X_runsAt_16 : decode b_X_runsAt 16 = .ok (.iconst 0, 1) := by decide +kernel
theorem d_X_runsAt_17 : decode b_X_runsAt 17 = .ok (.istore_n 3, 1) := by decide +kernel
theorem d_X_runsAt_18 : decode b_X_runsAt 18 = .ok (.iload_n 3, 1) := by decide +kernel
theorem d_X_runsAt_19 : decode b_X_runsAt 19 = .ok (.aload_n 0, 1) := by decide +kernel
theorem d_X_runsAt_20 : decode b_X_runsAt 20 = .ok (.getfield 40, 3) := by decide +kernel
theorem d_X_runsAt_23 : decode b_X_runsAt 23 = .ok (.if_icmp .ge 32, 3) := by decide +kernel
theorem d_X_runsAt_26 : decode b_X_runsAt 26 = .ok (.aload_n 0, 1) := by decide +kernel
theorem d_X_runsAt_27 : decode b_X_runsAt 27 = .ok (.getfield 16, 3) := by decide +kernel
theorem d_X_runsAt_30 : decode b_X_runsAt 30 = .ok (.iload_n 3, 1) := by decide +kernel
theorem d_X_runsAt_31 : decode b_X_runsAt 31 = .ok (.iaload, 1) := by decide +kernel
theorem d_X_runsAt_32 : decode b_X_runsAt 32 = .ok (.iload_n 1, 1) := by decide +kernel
theorem d_X_runsAt_33 : decode b_X_runsAt 33 = .ok (.if_icmp .gt 16, 3) := by decide +kernel
theorem d_X_runsAt_36 : decode b_X_runsAt 36 = .ok (.iload_n 1, 1) := by decide +kernel
theorem d_X_runsAt_37 : decode b_X_runsAt 37 = .ok (.aload_n 0, 1) := by decide +kernel
theorem d_X_runsAt_38 : decode b_X_runsAt 38 = .ok (.getfield 19, 3) := by decide +kernel
theorem d_X_runsAt_41 : decode b_X_runsAt 41 = .ok (.iload_n 3, 1) := by decide +kernel
theorem d_X_runsAt_42 : decode b_X_runsAt 42 = .ok (.iaload, 1) := by decide +kernel
theorem d_X_runsAt_43 : decode b_X_runsAt 43 = .ok (.if_icmp .gt 6, 3) := by decide +kernel
theorem d_X_runsAt_46 : decode b_X_runsAt 46 = .ok (.iinc 2 1, 3) := by decide +kernel
theorem d_X_runsAt_49 : decode b_X_runsAt 49 = .ok (.iinc 3 1, 3) := by decide +kernel
theorem d_X_runsAt_52 : decode b_X_runsAt 52 = .ok (.goto (-34), 3) := by decide +kernel
theorem d_X_runsAt_55 : decode b_X_runsAt 55 = .ok (.iload_n 2, 1) := by decide +kernel
theorem d_X_runsAt_56 : decode b_X_runsAt 56 = .ok (.ireturn, 1) := by decide +kernel
theorem d_X_squaresFrom_0 : decode b_X_squaresFrom 0 = .ok (.aload_n 0, 1) := by decide +kernel
theorem d_X_squaresFrom_1 : decode b_X_squaresFrom 1 = .ok (.iload_n 1, 1) := by decide +kernel
theorem d_X_squaresFrom_2 : decode b_X_squaresFrom 2 = .ok (.invokevirtual 33, 3) := by decide +kernel
theorem d_X_squaresFrom_5 : decode b_X_squaresFrom 5 = .ok (.ifCond .ne 5, 3) := by decide +kernel
theorem d_X_squaresFrom_8 : decode b_X_squaresFrom 8 = .ok (.iconst (-1), 1) := by decide +kernel
theorem d_X_squaresFrom_9 : decode b_X_squaresFrom 9 = .ok (.ireturn, 1) := by decide +kernel
theorem d_X_squaresFrom_10 : decode b_X_squaresFrom 10 = .ok (.aload_n 0, 1) := by decide +kernel
theorem d_X_squaresFrom_11 : decode b_X_squaresFrom 11 = .ok (.invokevirtual 37, 3) := by decide +kernel
theorem d_X_squaresFrom_14 : decode b_X_squaresFrom 14 = .ok (.iconst 0, 1) := by decide +kernel
theorem d_X_squaresFrom_15 : decode b_X_squaresFrom 15 = .ok (.istore_n 2, 1) := by decide +kernel
theorem d_X_squaresFrom_16 : decode b_X_squaresFrom 16 = .ok (.iconst 0, 1) := by decide +kernel
theorem d_X_squaresFrom_17 : decode b_X_squaresFrom 17 = .ok (.istore_n 3, 1) := by decide +kernel
theorem d_X_squaresFrom_18 : decode b_X_squaresFrom 18 = .ok (.iload_n 3, 1) := by decide +kernel
theorem d_X_squaresFrom_19 : decode b_X_squaresFrom 19 = .ok (.aload_n 0, 1) := by decide +kernel
theorem d_X_squaresFrom_20 : decode b_X_squaresFrom 20 = .ok (.getfield 40, 3) := by decide +kernel
theorem d_X_squaresFrom_23 : decode b_X_squaresFrom 23 = .ok (.if_icmp .ge 43, 3) := by decide +kernel
theorem d_X_squaresFrom_26 : decode b_X_squaresFrom 26 = .ok (.aload_n 0, 1) := by decide +kernel
theorem d_X_squaresFrom_27 : decode b_X_squaresFrom 27 = .ok (.getfield 16, 3) := by decide +kernel
theorem d_X_squaresFrom_30 : decode b_X_squaresFrom 30 = .ok (.iload_n 3, 1) := by decide +kernel
theorem d_X_squaresFrom_31 : decode b_X_squaresFrom 31 = .ok (.iaload, 1) := by decide +kernel
theorem d_X_squaresFrom_32 : decode b_X_squaresFrom 32 = .ok (.iload_n 1, 1) := by decide +kernel
theorem d_X_squaresFrom_33 : decode b_X_squaresFrom 33 = .ok (.if_icmp .gt 27, 3) := by decide +kernel
theorem d_X_squaresFrom_36 : decode b_X_squaresFrom 36 = .ok (.iload_n 1, 1) := by decide +kernel
theorem d_X_squaresFrom_37 : decode b_X_squaresFrom 37 = .ok (.iconst 2, 1) := by decide +kernel
theorem d_X_squaresFrom_38 : decode b_X_squaresFrom 38 = .ok (.aload_n 0, 1) := by decide +kernel
theorem d_X_squaresFrom_39 : decode b_X_squaresFrom 39 = .ok (.getfield 22, 3) := by decide +kernel
theorem d_X_squaresFrom_42 : decode b_X_squaresFrom 42 = .ok (.iload_n 3, 1) := by decide +kernel
theorem d_X_squaresFrom_43 : decode b_X_squaresFrom 43 = .ok (.iaload, 1) := by decide +kernel
theorem d_X_squaresFrom_44 : decode b_X_squaresFrom 44 = .ok (.imul, 1) := by decide +kernel
theorem d_X_squaresFrom_45 : decode b_X_squaresFrom 45 = .ok (.iadd, 1) := by decide +kernel
theorem d_X_squaresFrom_46 : decode b_X_squaresFrom 46 = .ok (.iconst 1, 1) := by decide +kernel
theorem d_X_squaresFrom_47 : decode b_X_squaresFrom 47 = .ok (.isub, 1) := by decide +kernel
theorem d_X_squaresFrom_48 : decode b_X_squaresFrom 48 = .ok (.aload_n 0, 1) := by decide +kernel
theorem d_X_squaresFrom_49 : decode b_X_squaresFrom 49 = .ok (.getfield 19, 3) := by decide +kernel
theorem d_X_squaresFrom_52 : decode b_X_squaresFrom 52 = .ok (.iload_n 3, 1) := by decide +kernel
theorem d_X_squaresFrom_53 : decode b_X_squaresFrom 53 = .ok (.iaload, 1) := by decide +kernel
theorem d_X_squaresFrom_54 : decode b_X_squaresFrom 54 = .ok (.if_icmp .gt 6, 3) := by decide +kernel
theorem d_X_squaresFrom_57 : decode b_X_squaresFrom 57 = .ok (.iinc 2 1, 3) := by decide +kernel
theorem d_X_squaresFrom_60 : decode b_X_squaresFrom 60 = .ok (.iinc 3 1, 3) := by decide +kernel
theorem d_X_squaresFrom_63 : decode b_X_squaresFrom 63 = .ok (.goto (-45), 3) := by decide +kernel
theorem d_X_squaresFrom_66 : decode b_X_squaresFrom 66 = .ok (.iload_n 2, 1) := by decide +kernel
theorem d_X_squaresFrom_67 : decode b_X_squaresFrom 67 = .ok (.ireturn, 1) := by decide +kernel
theorem d_X_squares_0 : decode b_X_squares 0 = .ok (.aload_n 0, 1) := by decide +kernel
theorem d_X_squares_1 : decode b_X_squares 1 = .ok (.invokevirtual 37, 3) := by decide +kernel
theorem d_X_squares_4 : decode b_X_squares 4 = .ok (.iconst 0, 1) := by decide +kernel
theorem d_X_squares_5 : decode b_X_squares 5 = .ok (.istore_n 1, 1) := by decide +kernel
theorem d_X_squares_6 : decode b_X_squares 6 = .ok (.iconst 0, 1) := by decide +kernel
theorem d_X_squares_7 : decode b_X_squares 7 = .ok (.istore_n 2, 1) := by decide +kernel
theorem d_X_squares_8 : decode b_X_squares 8 = .ok (.iload_n 2, 1) := by decide +kernel
theorem d_X_squares_9 : decode b_X_squares 9 = .ok (.aload_n 0, 1) := by decide +kernel
theorem d_X_squares_10 : decode b_X_squares 10 = .ok (.getfield 40, 3) := by decide +kernel
theorem d_X_squares_13 : decode b_X_squares 13 = .ok (.if_icmp .ge 66, 3) := by decide +kernel
theorem d_X_squares_16 : decode b_X_squares 16 = .ok (.aload_n 0, 1) := by decide +kernel
theorem d_X_squares_17 : decode b_X_squares 17 = .ok (.getfield 19, 3) := by decide +kernel
theorem d_X_squares_20 : decode b_X_squares 20 = .ok (.iload_n 2, 1) := by decide +kernel
theorem d_X_squares_21 : decode b_X_squares 21 = .ok (.iaload, 1) := by decide +kernel
theorem d_X_squares_22 : decode b_X_squares 22 = .ok (.aload_n 0, 1) := by decide +kernel
theorem d_X_squares_23 : decode b_X_squares 23 = .ok (.getfield 16, 3) := by decide +kernel
theorem d_X_squares_26 : decode b_X_squares 26 = .ok (.iload_n 2, 1) := by decide +kernel
theorem d_X_squares_27 : decode b_X_squares 27 = .ok (.iaload, 1) := by decide +kernel
theorem d_X_squares_28 : decode b_X_squares 28 = .ok (.isub, 1) := by decide +kernel
theorem d_X_squares_29 : decode b_X_squares 29 = .ok (.iconst 1, 1) := by decide +kernel
theorem d_X_squares_30 : decode b_X_squares 30 = .ok (.iadd, 1) := by decide +kernel
theorem d_X_squares_31 : decode b_X_squares 31 = .ok (.istore_n 3, 1) := by decide +kernel
theorem d_X_squares_32 : decode b_X_squares 32 = .ok (.iconst 2, 1) := by decide +kernel
theorem d_X_squares_33 : decode b_X_squares 33 = .ok (.aload_n 0, 1) := by decide +kernel
theorem d_X_squares_34 : decode b_X_squares 34 = .ok (.getfield 22, 3) := by decide +kernel
theorem d_X_squares_37 : decode b_X_squares 37 = .ok (.iload_n 2, 1) := by decide +kernel
theorem d_X_squares_38 : decode b_X_squares 38 = .ok (.iaload, 1) := by decide +kernel
theorem d_X_squares_39 : decode b_X_squares 39 = .ok (.imul, 1) := by decide +kernel
theorem d_X_squares_40 : decode b_X_squares 40 = .ok (.istore 4, 2) := by decide +kernel
theorem d_X_squares_42 : decode b_X_squares 42 = .ok (.iload 4, 2) := by decide +kernel
theorem d_X_squares_44 : decode b_X_squares 44 = .ok (.iload_n 3, 1) := by decide +kernel
theorem d_X_squares_45 : decode b_X_squares 45 = .ok (.if_icmp .gt 28, 3) := by decide +kernel
theorem d_X_squares_48 : decode b_X_squares 48 = .ok (.iload_n 1, 1) := by decide +kernel
theorem d_X_squares_49 : decode b_X_squares 49 = .ok (.iload_n 3, 1) := by decide +kernel
theorem d_X_squares_50 : decode b_X_squares 50 = .ok (.iload 4, 2) := by decide +kernel
theorem d_X_squares_52 : decode b_X_squares 52 = .ok (.isub, 1) := by decide +kernel
theorem d_X_squares_53 : decode b_X_squares 53 = .ok (.iconst 1, 1) := by decide +kernel
theorem d_X_squares_54 : decode b_X_squares 54 = .ok (.iadd, 1) := by decide +kernel
theorem d_X_squares_55 : decode b_X_squares 55 = .ok (.iadd, 1) := by decide +kernel
theorem d_X_squares_56 : decode b_X_squares 56 = .ok (.istore_n 1, 1) := by decide +kernel
theorem d_X_squares_57 : decode b_X_squares 57 = .ok (.iload 4, 2) := by decide +kernel
theorem d_X_squares_59 : decode b_X_squares 59 = .ok (.iconst 2, 1) := by decide +kernel
theorem d_X_squares_60 : decode b_X_squares 60 = .ok (.aload_n 0, 1) := by decide +kernel
theorem d_X_squares_61 : decode b_X_squares 61 = .ok (.getfield 22, 3) := by decide +kernel
theorem d_X_squares_64 : decode b_X_squares 64 = .ok (.iload_n 2, 1) := by decide +kernel
theorem d_X_squares_65 : decode b_X_squares 65 = .ok (.iaload, 1) := by decide +kernel
theorem d_X_squares_66 : decode b_X_squares 66 = .ok (.imul, 1) := by decide +kernel
theorem d_X_squares_67 : decode b_X_squares 67 = .ok (.iadd, 1) := by decide +kernel
theorem d_X_squares_68 : decode b_X_squares 68 = .ok (.istore 4, 2) := by decide +kernel
theorem d_X_squares_70 : decode b_X_squares 70 = .ok (.goto (-28), 3) := by decide +kernel
theorem d_X_squares_73 : decode b_X_squares 73 = .ok (.iinc 2 1, 3) := by decide +kernel
theorem d_X_squares_76 : decode b_X_squares 76 = .ok (.goto (-68), 3) := by decide +kernel
theorem d_X_squares_79 : decode b_X_squares 79 = .ok (.iload_n 1, 1) := by decide +kernel
theorem d_X_squares_80 : decode b_X_squares 80 = .ok (.ireturn, 1) := by decide +kernel
theorem d_X_periodOf_0 : decode b_X_periodOf 0 = .ok (.aload_n 0, 1) := by decide +kernel
theorem d_X_periodOf_1 : decode b_X_periodOf 1 = .ok (.iload_n 1, 1) := by decide +kernel
theorem d_X_periodOf_2 : decode b_X_periodOf 2 = .ok (.invokevirtual 33, 3) := by decide +kernel
theorem d_X_periodOf_5 : decode b_X_periodOf 5 = .ok (.ifCond .eq 16, 3) := by decide +kernel
theorem d_X_periodOf_8 : decode b_X_periodOf 8 = .ok (.aload_n 0, 1) := by decide +kernel
theorem d_X_periodOf_9 : decode b_X_periodOf 9 = .ok (.iload_n 2, 1) := by decide +kernel
theorem d_X_periodOf_10 : decode b_X_periodOf 10 = .ok (.invokevirtual 33, 3) := by decide +kernel
theorem d_X_periodOf_13 : decode b_X_periodOf 13 = .ok (.ifCond .eq 8, 3) := by decide +kernel
theorem d_X_periodOf_16 : decode b_X_periodOf 16 = .ok (.iload_n 1, 1) := by decide +kernel
theorem d_X_periodOf_17 : decode b_X_periodOf 17 = .ok (.iload_n 2, 1) := by decide +kernel
theorem d_X_periodOf_18 : decode b_X_periodOf 18 = .ok (.if_icmp .le 5, 3) := by decide +kernel
theorem d_X_periodOf_21 : decode b_X_periodOf 21 = .ok (.iconst (-1), 1) := by decide +kernel
theorem d_X_periodOf_22 : decode b_X_periodOf 22 = .ok (.ireturn, 1) := by decide +kernel
theorem d_X_periodOf_23 : decode b_X_periodOf 23 = .ok (.aload_n 0, 1) := by decide +kernel
theorem d_X_periodOf_24 : decode b_X_periodOf 24 = .ok (.invokevirtual 37, 3) := by decide +kernel
theorem d_X_periodOf_27 : decode b_X_periodOf 27 = .ok (.iconst 0, 1) := by decide +kernel
theorem d_X_periodOf_28 : decode b_X_periodOf 28 = .ok (.istore_n 3, 1) := by decide +kernel
theorem d_X_periodOf_29 : decode b_X_periodOf 29 = .ok (.iconst 0, 1) := by decide +kernel
theorem d_X_periodOf_30 : decode b_X_periodOf 30 = .ok (.istore 4, 2) := by decide +kernel
theorem d_X_periodOf_32 : decode b_X_periodOf 32 = .ok (.iload 4, 2) := by decide +kernel
theorem d_X_periodOf_34 : decode b_X_periodOf 34 = .ok (.aload_n 0, 1) := by decide +kernel
theorem d_X_periodOf_35 : decode b_X_periodOf 35 = .ok (.getfield 40, 3) := by decide +kernel
theorem d_X_periodOf_38 : decode b_X_periodOf 38 = .ok (.if_icmp .ge 83, 3) := by decide +kernel
theorem d_X_periodOf_41 : decode b_X_periodOf 41 = .ok (.aload_n 0, 1) := by decide +kernel
theorem d_X_periodOf_42 : decode b_X_periodOf 42 = .ok (.getfield 16, 3) := by decide +kernel
theorem d_X_periodOf_45 : decode b_X_periodOf 45 = .ok (.iload 4, 2) := by decide +kernel
theorem d_X_periodOf_47 : decode b_X_periodOf 47 = .ok (.iaload, 1) := by decide +kernel
theorem d_X_periodOf_48 : decode b_X_periodOf 48 = .ok (.iload_n 1, 1) := by decide +kernel
theorem d_X_periodOf_49 : decode b_X_periodOf 49 = .ok (.if_icmp .gt 18, 3) := by decide +kernel
theorem d_X_periodOf_52 : decode b_X_periodOf 52 = .ok (.iload_n 2, 1) := by decide +kernel
theorem d_X_periodOf_53 : decode b_X_periodOf 53 = .ok (.aload_n 0, 1) := by decide +kernel
theorem d_X_periodOf_54 : decode b_X_periodOf 54 = .ok (.getfield 19, 3) := by decide +kernel
theorem d_X_periodOf_57 : decode b_X_periodOf 57 = .ok (.iload 4, 2) := by decide +kernel
theorem d_X_periodOf_59 : decode b_X_periodOf 59 = .ok (.iaload, 1) := by decide +kernel
theorem d_X_periodOf_60 : decode b_X_periodOf 60 = .ok (.if_icmp .gt 7, 3) := by decide +kernel
theorem d_X_periodOf_63 : decode b_X_periodOf 63 = .ok (.iconst 1, 1) := by decide +kernel
theorem d_X_periodOf_64 : decode b_X_periodOf 64 = .ok (.goto 4, 3) := by decide +kernel
theorem d_X_periodOf_67 : decode b_X_periodOf 67 = .ok (.iconst 0, 1) := by decide +kernel
theorem d_X_periodOf_68 : decode b_X_periodOf 68 = .ok (.istore 5, 2) := by decide +kernel
theorem d_X_periodOf_70 : decode b_X_periodOf 70 = .ok (.iload 5, 2) := by decide +kernel
theorem d_X_periodOf_72 : decode b_X_periodOf 72 = .ok (.ifCond .eq 43, 3) := by decide +kernel
theorem d_X_periodOf_75 : decode b_X_periodOf 75 = .ok (.iconst 2, 1) := by decide +kernel
theorem d_X_periodOf_76 : decode b_X_periodOf 76 = .ok (.aload_n 0, 1) := by decide +kernel
theorem d_X_periodOf_77 : decode b_X_periodOf 77 = .ok (.getfield 22, 3) := by decide +kernel
theorem d_X_periodOf_80 : decode b_X_periodOf 80 = .ok (.iload 4, 2) := by decide +kernel
theorem d_X_periodOf_82 : decode b_X_periodOf 82 = .ok (.iaload, 1) := by decide +kernel
theorem d_X_periodOf_83 : decode b_X_periodOf 83 = .ok (.imul, 1) := by decide +kernel
theorem d_X_periodOf_84 : decode b_X_periodOf 84 = .ok (.iload_n 2, 1) := by decide +kernel
theorem d_X_periodOf_85 : decode b_X_periodOf 85 = .ok (.iload_n 1, 1) := by decide +kernel
theorem d_X_periodOf_86 : decode b_X_periodOf 86 = .ok (.isub, 1) := by decide +kernel
theorem d_X_periodOf_87 : decode b_X_periodOf 87 = .ok (.iconst 1, 1) := by decide +kernel
theorem d_X_periodOf_88 : decode b_X_periodOf 88 = .ok (.iadd, 1) := by decide +kernel
theorem d_X_periodOf_89 : decode b_X_periodOf 89 = .ok (.if_icmp .gt 26, 3) := by decide +kernel
theorem d_X_periodOf_92 : decode b_X_periodOf 92 = .ok (.iload_n 3, 1) := by decide +kernel
theorem d_X_periodOf_93 : decode b_X_periodOf 93 = .ok (.ifCond .eq 14, 3) := by decide +kernel
theorem d_X_periodOf_96 : decode b_X_periodOf 96 = .ok (.aload_n 0, 1) := by decide +kernel
theorem d_X_periodOf_97 : decode b_X_periodOf 97 = .ok (.getfield 22, 3) := by decide +kernel
theorem d_X_periodOf_100 : decode b_X_periodOf 100 = .ok (.iload 4, 2) := by decide +kernel
theorem d_X_periodOf_102 : decode b_X_periodOf 102 = .ok (.iaload, 1) := by decide +kernel
theorem d_X_periodOf_103 : decode b_X_periodOf 103 = .ok (.iload_n 3, 1) := by decide +kernel
theorem d_X_periodOf_104 : decode b_X_periodOf 104 = .ok (.if_icmp .ge 11, 3) := by decide +kernel
theorem d_X_periodOf_107 : decode b_X_periodOf 107 = .ok (.aload_n 0, 1) := by decide +kernel
theorem d_X_periodOf_108 : decode b_X_periodOf 108 = .ok (.getfield 22, 3) := by decide +kernel
theorem d_X_periodOf_111 : decode b_X_periodOf 111 = .ok (.iload 4, 2) := by decide +kernel
theorem d_X_periodOf_113 : decode b_X_periodOf 113 = .ok (.iaload, 1) := by decide +kernel
theorem d_X_periodOf_114 : decode b_X_periodOf 114 = .ok (.istore_n 3, 1) := by decide +kernel
theorem d_X_periodOf_115 : decode b_X_periodOf 115 = .ok (.iinc 4 1, 3) := by decide +kernel
theorem d_X_periodOf_118 : decode b_X_periodOf 118 = .ok (.goto (-86), 3) := by decide +kernel
theorem d_X_periodOf_121 : decode b_X_periodOf 121 = .ok (.iload_n 3, 1) := by decide +kernel
theorem d_X_periodOf_122 : decode b_X_periodOf 122 = .ok (.ireturn, 1) := by decide +kernel
end
section
theorem d_X_longest_0 : decode b_X_longest 0 = .ok (.aload_n 0, 1) := by decide +kernel
theorem d_X_longest_1 : decode b_X_longest 1 = .ok (.invokevirtual 37, 3) := by decide +kernel
theorem d_X_longest_4 : decode b_X_longest 4 = .ok (.iconst 0, 1) := by decide +kernel
theorem d_X_longest_5 : decode b_X_longest 5 = .ok (.istore_n 1, 1) := by decide +kernel
theorem d_X_longest_6 : decode b_X_longest 6 = .ok (.iconst 0, 1) := by decide +kernel
theorem d_X_longest_7 : decode b_X_longest 7 = .ok (.istore_n 2, 1) := by decide +kernel
theorem d_X_longest_8 : decode b_X_longest 8 = .ok (.iload_n 2, 1) := by decide +kernel
theorem d_X_longest_9 : decode b_X_longest 9 = .ok (.aload_n 0, 1) := by decide +kernel
theorem d_X_longest_10 : decode b_X_longest 10 = .ok (.getfield 40, 3) := by decide +kernel
theorem d_X_longest_13 : decode b_X_longest 13 = .ok (.if_icmp .ge 36, 3) := by decide +kernel
theorem d_X_longest_16 : decode b_X_longest 16 = .ok (.aload_n 0, 1) := by decide +kernel
theorem d_X_longest_17 : decode b_X_longest 17 = .ok (.getfield 19, 3) := by decide +kernel
theorem d_X_longest_20 : decode b_X_longest 20 = .ok (.iload_n 2, 1) := by decide +kernel
theorem d_X_longest_21 : decode b_X_longest 21 = .ok (.iaload, 1) := by decide +kernel
theorem d_X_longest_22 : decode b_X_longest 22 = .ok (.aload_n 0, 1) := by decide +kernel
theorem d_X_longest_23 : decode b_X_longest 23 = .ok (.getfield 16, 3) := by decide +kernel
theorem d_X_longest_26 : decode b_X_longest 26 = .ok (.iload_n 2, 1) := by decide +kernel
theorem d_X_longest_27 : decode b_X_longest 27 = .ok (.iaload, 1) := by decide +kernel
theorem d_X_longest_28 : decode b_X_longest 28 = .ok (.isub, 1) := by decide +kernel
theorem d_X_longest_29 : decode b_X_longest 29 = .ok (.iconst 1, 1) := by decide +kernel
theorem d_X_longest_30 : decode b_X_longest 30 = .ok (.iadd, 1) := by decide +kernel
theorem d_X_longest_31 : decode b_X_longest 31 = .ok (.istore_n 3, 1) := by decide +kernel
theorem d_X_longest_32 : decode b_X_longest 32 = .ok (.iload_n 3, 1) := by decide +kernel
theorem d_X_longest_33 : decode b_X_longest 33 = .ok (.iload_n 1, 1) := by decide +kernel
theorem d_X_longest_34 : decode b_X_longest 34 = .ok (.if_icmp .le 7, 3) := by decide +kernel
theorem d_X_longest_37 : decode b_X_longest 37 = .ok (.iload_n 3, 1) := by decide +kernel
theorem d_X_longest_38 : decode b_X_longest 38 = .ok (.goto 4, 3) := by decide +kernel
theorem d_X_longest_41 : decode b_X_longest 41 = .ok (.iload_n 1, 1) := by decide +kernel
theorem d_X_longest_42 : decode b_X_longest 42 = .ok (.istore_n 1, 1) := by decide +kernel
theorem d_X_longest_43 : decode b_X_longest 43 = .ok (.iinc 2 1, 3) := by decide +kernel
theorem d_X_longest_46 : decode b_X_longest 46 = .ok (.goto (-38), 3) := by decide +kernel
theorem d_X_longest_49 : decode b_X_longest 49 = .ok (.iload_n 1, 1) := by decide +kernel
theorem d_X_longest_50 : decode b_X_longest 50 = .ok (.ireturn, 1) := by decide +kernel
theorem d_X_power_0 : decode b_X_power 0 = .ok (.aload_n 0, 1) := by decide +kernel
theorem d_X_power_1 : decode b_X_power 1 = .ok (.invokevirtual 37, 3) := by decide +kernel
theorem d_X_power_4 : decode b_X_power 4 = .ok (.iconst 0, 1) := by decide +kernel
theorem d_X_power_5 : decode b_X_power 5 = .ok (.istore_n 1, 1) := by decide +kernel
theorem d_X_power_6 : decode b_X_power 6 = .ok (.iconst 0, 1) := by decide +kernel
theorem d_X_power_7 : decode b_X_power 7 = .ok (.istore_n 2, 1) := by decide +kernel
theorem d_X_power_8 : decode b_X_power 8 = .ok (.iload_n 2, 1) := by decide +kernel
theorem d_X_power_9 : decode b_X_power 9 = .ok (.aload_n 0, 1) := by decide +kernel
theorem d_X_power_10 : decode b_X_power 10 = .ok (.getfield 40, 3) := by decide +kernel
theorem d_X_power_13 : decode b_X_power 13 = .ok (.if_icmp .ge 67, 3) := by decide +kernel
theorem d_X_power_16 : decode b_X_power 16 = .ok (.iconst 0, 1) := by decide +kernel
theorem d_X_power_17 : decode b_X_power 17 = .ok (.istore_n 3, 1) := by decide +kernel
theorem d_X_power_18 : decode b_X_power 18 = .ok (.aload_n 0, 1) := by decide +kernel
theorem d_X_power_19 : decode b_X_power 19 = .ok (.getfield 19, 3) := by decide +kernel
theorem d_X_power_22 : decode b_X_power 22 = .ok (.iload_n 2, 1) := by decide +kernel
theorem d_X_power_23 : decode b_X_power 23 = .ok (.iaload, 1) := by decide +kernel
theorem d_X_power_24 : decode b_X_power 24 = .ok (.aload_n 0, 1) := by decide +kernel
theorem d_X_power_25 : decode b_X_power 25 = .ok (.getfield 16, 3) := by decide +kernel
theorem d_X_power_28 : decode b_X_power 28 = .ok (.iload_n 2, 1) := by decide +kernel
theorem d_X_power_29 : decode b_X_power 29 = .ok (.iaload, 1) := by decide +kernel
theorem d_X_power_30 : decode b_X_power 30 = .ok (.isub, 1) := by decide +kernel
theorem d_X_power_31 : decode b_X_power 31 = .ok (.iconst 1, 1) := by decide +kernel
theorem d_X_power_32 : decode b_X_power 32 = .ok (.iadd, 1) := by decide +kernel
theorem d_X_power_33 : decode b_X_power 33 = .ok (.istore 4, 2) := by decide +kernel
theorem d_X_power_35 : decode b_X_power 35 = .ok (.iload 4, 2) := by decide +kernel
theorem d_X_power_37 : decode b_X_power 37 = .ok (.aload_n 0, 1) := by decide +kernel
theorem d_X_power_38 : decode b_X_power 38 = .ok (.getfield 22, 3) := by decide +kernel
theorem d_X_power_41 : decode b_X_power 41 = .ok (.iload_n 2, 1) := by decide +kernel
theorem d_X_power_42 : decode b_X_power 42 = .ok (.iaload, 1) := by decide +kernel
theorem d_X_power_43 : decode b_X_power 43 = .ok (.if_icmp .lt 20, 3) := by decide +kernel
theorem d_X_power_46 : decode b_X_power 46 = .ok (.iinc 3 1, 3) := by decide +kernel
theorem d_X_power_49 : decode b_X_power 49 = .ok (.iload 4, 2) := by decide +kernel
theorem d_X_power_51 : decode b_X_power 51 = .ok (.aload_n 0, 1) := by decide +kernel
theorem d_X_power_52 : decode b_X_power 52 = .ok (.getfield 22, 3) := by decide +kernel
theorem d_X_power_55 : decode b_X_power 55 = .ok (.iload_n 2, 1) := by decide +kernel
theorem d_X_power_56 : decode b_X_power 56 = .ok (.iaload, 1) := by decide +kernel
theorem d_X_power_57 : decode b_X_power 57 = .ok (.isub, 1) := by decide +kernel
theorem d_X_power_58 : decode b_X_power 58 = .ok (.istore 4, 2) := by decide +kernel
theorem d_X_power_60 : decode b_X_power 60 = .ok (.goto (-25), 3) := by decide +kernel
theorem d_X_power_63 : decode b_X_power 63 = .ok (.iload_n 3, 1) := by decide +kernel
theorem d_X_power_64 : decode b_X_power 64 = .ok (.iload_n 1, 1) := by decide +kernel
theorem d_X_power_65 : decode b_X_power 65 = .ok (.if_icmp .le 7, 3) := by decide +kernel
theorem d_X_power_68 : decode b_X_power 68 = .ok (.iload_n 3, 1) := by decide +kernel
theorem d_X_power_69 : decode b_X_power 69 = .ok (.goto 4, 3) := by decide +kernel
theorem d_X_power_72 : decode b_X_power 72 = .ok (.iload_n 1, 1) := by decide +kernel
theorem d_X_power_73 : decode b_X_power 73 = .ok (.istore_n 1, 1) := by decide +kernel
theorem d_X_power_74 : decode b_X_power 74 = .ok (.iinc 2 1, 3) := by decide +kernel
theorem d_X_power_77 : decode b_X_power 77 = .ok (.goto (-69), 3) := by decide +kernel
theorem d_X_power_80 : decode b_X_power 80 = .ok (.iload_n 1, 1) := by decide +kernel
theorem d_X_power_81 : decode b_X_power 81 = .ok (.ireturn, 1) := by decide +kernel
theorem d_X_common_0 : decode b_X_common 0 = .ok (.aload_n 0, 1) := by decide +kernel
theorem d_X_common_1 : decode b_X_common 1 = .ok (.iload_n 1, 1) := by decide +kernel
theorem d_X_common_2 : decode b_X_common 2 = .ok (.invokevirtual 33, 3) := by decide +kernel
theorem d_X_common_5 : decode b_X_common 5 = .ok (.ifCond .eq 11, 3) := by decide +kernel
theorem d_X_common_8 : decode b_X_common 8 = .ok (.aload_n 0, 1) := by decide +kernel
theorem d_X_common_9 : decode b_X_common 9 = .ok (.iload_n 2, 1) := by decide +kernel
theorem d_X_common_10 : decode b_X_common 10 = .ok (.invokevirtual 33, 3) := by decide +kernel
theorem d_X_common_13 : decode b_X_common 13 = .ok (.ifCond .ne 5, 3) := by decide +kernel
theorem d_X_common_16 : decode b_X_common 16 = .ok (.iconst (-1), 1) := by decide +kernel
theorem d_X_common_17 : decode b_X_common 17 = .ok (.ireturn, 1) := by decide +kernel
theorem d_X_common_18 : decode b_X_common 18 = .ok (.aload_n 0, 1) := by decide +kernel
theorem d_X_common_19 : decode b_X_common 19 = .ok (.iload_n 1, 1) := by decide +kernel
theorem d_X_common_20 : decode b_X_common 20 = .ok (.iload_n 2, 1) := by decide +kernel
theorem d_X_common_21 : decode b_X_common 21 = .ok (.invokevirtual 46, 3) := by decide +kernel
theorem d_X_common_24 : decode b_X_common 24 = .ok (.ireturn, 1) := by decide +kernel
theorem d_X_nextSmaller_0 : decode b_X_nextSmaller 0 = .ok (.aload_n 0, 1) := by decide +kernel
theorem d_X_nextSmaller_1 : decode b_X_nextSmaller 1 = .ok (.iload_n 1, 1) := by decide +kernel
theorem d_X_nextSmaller_2 : decode b_X_nextSmaller 2 = .ok (.invokevirtual 33, 3) := by decide +kernel
theorem d_X_nextSmaller_5 : decode b_X_nextSmaller 5 = .ok (.ifCond .ne 5, 3) := by decide +kernel
theorem d_X_nextSmaller_8 : decode b_X_nextSmaller 8 = .ok (.iconst (-1), 1) := by decide +kernel
theorem d_X_nextSmaller_9 : decode b_X_nextSmaller 9 = .ok (.ireturn, 1) := by decide +kernel
theorem d_X_nextSmaller_10 : decode b_X_nextSmaller 10 = .ok (.aload_n 0, 1) := by decide +kernel
theorem d_X_nextSmaller_11 : decode b_X_nextSmaller 11 = .ok (.iconst 1, 1) := by decide +kernel
theorem d_X_nextSmaller_12 : decode b_X_nextSmaller 12 = .ok (.invokevirtual 50, 3) := by decide +kernel
theorem d_X_nextSmaller_15 : decode b_X_nextSmaller 15 = .ok (.aload_n 0, 1) := by decide +kernel
theorem d_X_nextSmaller_16 : decode b_X_nextSmaller 16 = .ok (.getfield 13, 3) := by decide +kernel
theorem d_X_nextSmaller_19 : decode b_X_nextSmaller 19 = .ok (.iload_n 1, 1) := by decide +kernel
theorem d_X_nextSmaller_20 : decode b_X_nextSmaller 20 = .ok (.iaload, 1) := by decide +kernel
theorem d_X_nextSmaller_21 : decode b_X_nextSmaller 21 = .ok (.ireturn, 1) := by decide +kernel
theorem d_X_isPlace_0 : decode b_X_isPlace 0 = .ok (.iload_n 1, 1) := by decide +kernel
theorem d_X_isPlace_1 : decode b_X_isPlace 1 = .ok (.ifCond .lt 15, 3) := by decide +kernel
theorem d_X_isPlace_4 : decode b_X_isPlace 4 = .ok (.iload_n 1, 1) := by decide +kernel
theorem d_X_isPlace_5 : decode b_X_isPlace 5 = .ok (.aload_n 0, 1) := by decide +kernel
theorem d_X_isPlace_6 : decode b_X_isPlace 6 = .ok (.getfield 25, 3) := by decide +kernel
theorem d_X_isPlace_9 : decode b_X_isPlace 9 = .ok (.if_icmp .ge 7, 3) := by decide +kernel
theorem d_X_isPlace_12 : decode b_X_isPlace 12 = .ok (.iconst 1, 1) := by decide +kernel
theorem d_X_isPlace_13 : decode b_X_isPlace 13 = .ok (.goto 4, 3) := by decide +kernel
theorem d_X_isPlace_16 : decode b_X_isPlace 16 = .ok (.iconst 0, 1) := by decide +kernel
theorem d_X_isPlace_17 : decode b_X_isPlace 17 = .ok (.ireturn, 1) := by decide +kernel
theorem d_X_isRun_0 : decode b_X_isRun 0 = .ok (.iload_n 1, 1) := by decide +kernel
theorem d_X_isRun_1 : decode b_X_isRun 1 = .ok (.ifCond .lt 15, 3) := by decide +kernel
theorem d_X_isRun_4 : decode b_X_isRun 4 = .ok (.iload_n 1, 1) := by decide +kernel
theorem d_X_isRun_5 : decode b_X_isRun 5 = .ok (.aload_n 0, 1) := by decide +kernel
theorem d_X_isRun_6 : decode b_X_isRun 6 = .ok (.getfield 40, 3) := by decide +kernel
theorem d_X_isRun_9 : decode b_X_isRun 9 = .ok (.if_icmp .ge 7, 3) := by decide +kernel
theorem d_X_isRun_12 : decode b_X_isRun 12 = .ok (.iconst 1, 1) := by decide +kernel
theorem d_X_isRun_13 : decode b_X_isRun 13 = .ok (.goto 4, 3) := by decide +kernel
theorem d_X_isRun_16 : decode b_X_isRun 16 = .ok (.iconst 0, 1) := by decide +kernel
theorem d_X_isRun_17 : decode b_X_isRun 17 = .ok (.ireturn, 1) := by decide +kernel
theorem d_X_forward_0 : decode b_X_forward 0 = .ok (.iconst 0, 1) := by decide +kernel
theorem d_X_forward_1 : decode b_X_forward 1 = .ok (.istore_n 3, 1) := by decide +kernel
theorem d_X_forward_2 : decode b_X_forward 2 = .ok (.iload_n 1, 1) := by decide +kernel
theorem d_X_forward_3 : decode b_X_forward 3 = .ok (.iload_n 3, 1) := by decide +kernel
theorem d_X_forward_4 : decode b_X_forward 4 = .ok (.iadd, 1) := by decide +kernel
theorem d_X_forward_5 : decode b_X_forward 5 = .ok (.aload_n 0, 1) := by decide +kernel
theorem d_X_forward_6 : decode b_X_forward 6 = .ok (.getfield 25, 3) := by decide +kernel
theorem d_X_forward_9 : decode b_X_forward 9 = .ok (.if_icmp .ge 38, 3) := by decide +kernel
theorem d_X_forward_12 : decode b_X_forward 12 = .ok (.iload_n 2, 1) := by decide +kernel
theorem d_X_forward_13 : decode b_X_forward 13 = .ok (.iload_n 3, 1) := by decide +kernel
theorem d_X_forward_14 : decode b_X_forward 14 = .ok (.iadd, 1) := by decide +kernel
theorem d_X_forward_15 : decode b_X_forward 15 = .ok (.aload_n 0, 1) := by decide +kernel
theorem d_X_forward_16 : decode b_X_forward 16 = .ok (.getfield 25, 3) := by decide +kernel
theorem d_X_forward_19 : decode b_X_forward 19 = .ok (.if_icmp .ge 28, 3) := by decide +kernel
theorem d_X_forward_22 : decode b_X_forward 22 = .ok (.aload_n 0, 1) := by decide +kernel
theorem d_X_forward_23 : decode b_X_forward 23 = .ok (.getfield 7, 3) := by decide +kernel
theorem d_X_forward_26 : decode b_X_forward 26 = .ok (.iload_n 1, 1) := by decide +kernel
theorem d_X_forward_27 : decode b_X_forward 27 = .ok (.iload_n 3, 1) := by decide +kernel
theorem d_X_forward_28 : decode b_X_forward 28 = .ok (.iadd, 1) := by decide +kernel
theorem d_X_forward_29 : decode b_X_forward 29 = .ok (.iaload, 1) := by decide +kernel
theorem d_X_forward_30 : decode b_X_forward 30 = .ok (.aload_n 0, 1) := by decide +kernel
theorem d_X_forward_31 : decode b_X_forward 31 = .ok (.getfield 7, 3) := by decide +kernel
theorem d_X_forward_34 : decode b_X_forward 34 = .ok (.iload_n 2, 1) := by decide +kernel
theorem d_X_forward_35 : decode b_X_forward 35 = .ok (.iload_n 3, 1) := by decide +kernel
theorem d_X_forward_36 : decode b_X_forward 36 = .ok (.iadd, 1) := by decide +kernel
theorem d_X_forward_37 : decode b_X_forward 37 = .ok (.iaload, 1) := by decide +kernel
theorem d_X_forward_38 : decode b_X_forward 38 = .ok (.if_icmp .ne 9, 3) := by decide +kernel
theorem d_X_forward_41 : decode b_X_forward 41 = .ok (.iinc 3 1, 3) := by decide +kernel
theorem d_X_forward_44 : decode b_X_forward 44 = .ok (.goto (-42), 3) := by decide +kernel
theorem d_X_forward_47 : decode b_X_forward 47 = .ok (.iload_n 3, 1) := by decide +kernel
theorem d_X_forward_48 : decode b_X_forward 48 = .ok (.ireturn, 1) := by decide +kernel
theorem d_X_backward_0 : decode b_X_backward 0 = .ok (.iconst 0, 1) := by decide +kernel
theorem d_X_backward_1 : decode b_X_backward 1 = .ok (.istore_n 3, 1) := by decide +kernel
theorem d_X_backward_2 : decode b_X_backward 2 = .ok (.iload_n 3, 1) := by decide +kernel
theorem d_X_backward_3 : decode b_X_backward 3 = .ok (.iload_n 1, 1) := by decide +kernel
theorem d_X_backward_4 : decode b_X_backward 4 = .ok (.if_icmp .ge 37, 3) := by decide +kernel
theorem d_X_backward_7 : decode b_X_backward 7 = .ok (.iload_n 3, 1) := by decide +kernel
theorem d_X_backward_8 : decode b_X_backward 8 = .ok (.iload_n 2, 1) := by decide +kernel
theorem d_X_backward_9 : decode b_X_backward 9 = .ok (.if_icmp .ge 32, 3) := by decide +kernel
theorem d_X_backward_12 : decode b_X_backward 12 = .ok (.aload_n 0, 1) := by decide +kernel
theorem d_X_backward_13 : decode b_X_backward 13 = .ok (.getfield 7, 3) := by decide +kernel
theorem d_X_backward_16 : decode b_X_backward 16 = .ok (.iload_n 1, 1) := by decide +kernel
theorem d_X_backward_17 : decode b_X_backward 17 = .ok (.iconst 1, 1) := by decide +kernel
theorem d_X_backward_18 : decode b_X_backward 18 = .ok (.isub, 1) := by decide +kernel
theorem d_X_backward_19 : decode b_X_backward 19 = .ok (.iload_n 3, 1) := by decide +kernel
theorem d_X_backward_20 : decode b_X_backward 20 = .ok (.isub, 1) := by decide +kernel
theorem d_X_backward_21 : decode b_X_backward 21 = .ok (.iaload, 1) := by decide +kernel
theorem d_X_backward_22 : decode b_X_backward 22 = .ok (.aload_n 0, 1) := by decide +kernel
theorem d_X_backward_23 : decode b_X_backward 23 = .ok (.getfield 7, 3) := by decide +kernel
theorem d_X_backward_26 : decode b_X_backward 26 = .ok (.iload_n 2, 1) := by decide +kernel
theorem d_X_backward_27 : decode b_X_backward 27 = .ok (.iconst 1, 1) := by decide +kernel
theorem d_X_backward_28 : decode b_X_backward 28 = .ok (.isub, 1) := by decide +kernel
theorem d_X_backward_29 : decode b_X_backward 29 = .ok (.iload_n 3, 1) := by decide +kernel
theorem d_X_backward_30 : decode b_X_backward 30 = .ok (.isub, 1) := by decide +kernel
theorem d_X_backward_31 : decode b_X_backward 31 = .ok (.iaload, 1) := by decide +kernel
theorem d_X_backward_32 : decode b_X_backward 32 = .ok (.if_icmp .ne 9, 3) := by decide +kernel
theorem d_X_backward_35 : decode b_X_backward 35 = .ok (.iinc 3 1, 3) := by decide +kernel
theorem d_X_backward_38 : decode b_X_backward 38 = .ok (.goto (-36), 3) := by decide +kernel
theorem d_X_backward_41 : decode b_X_backward 41 = .ok (.iload_n 3, 1) := by decide +kernel
theorem d_X_backward_42 : decode b_X_backward 42 = .ok (.ireturn, 1) := by decide +kernel
theorem d_X_comesBefore_0 : decode b_X_comesBefore 0 = .ok (.aload_n 0, 1) := by decide +kernel
theorem d_X_comesBefore_1 : decode b_X_comesBefore 1 = .ok (.iload_n 2, 1) := by decide +kernel
theorem d_X_comesBefore_2 : decode b_X_comesBefore 2 = .ok (.iload_n 1, 1) := by decide +kernel
theorem d_X_comesBefore_3 : decode b_X_comesBefore 3 = .ok (.invokevirtual 46, 3) := by decide +kernel
theorem d_X_comesBefore_6 : decode b_X_comesBefore 6 = .ok (.istore 4, 2) := by decide +kernel
theorem d_X_comesBefore_8 : decode b_X_comesBefore 8 = .ok (.iload_n 1, 1) := by decide +kernel
theorem d_X_comesBefore_9 : decode b_X_comesBefore 9 = .ok (.iload 4, 2) := by decide +kernel
theorem d_X_comesBefore_11 : decode b_X_comesBefore 11 = .ok (.iadd, 1) := by decide +kernel
theorem d_X_comesBefore_12 : decode b_X_comesBefore 12 = .ok (.aload_n 0, 1) := by decide +kernel
theorem d_X_comesBefore_13 : decode b_X_comesBefore 13 = .ok (.getfield 25, 3) := by decide +kernel
theorem d_X_comesBefore_16 : decode b_X_comesBefore 16 = .ok (.if_icmp .lt 5, 3) := by decide +kernel
theorem d_X_comesBefore_19 : decode b_X_comesBefore 19 = .ok (.iconst 1, 1) := by decide +kernel
theorem d_X_comesBefore_20 : decode b_X_comesBefore 20 = .ok (.ireturn, 1) := by decide +kernel
theorem d_X_comesBefore_21 : decode b_X_comesBefore 21 = .ok (.iload_n 3, 1) := by decide +kernel
theorem d_X_comesBefore_22 : decode b_X_comesBefore 22 = .ok (.ifCond .eq 32, 3) := by decide +kernel
theorem d_X_comesBefore_25 : decode b_X_comesBefore 25 = .ok (.aload_n 0, 1) := by decide +kernel
theorem d_X_comesBefore_26 : decode b_X_comesBefore 26 = .ok (.getfield 7, 3) := by decide +kernel
theorem d_X_comesBefore_29 : decode b_X_comesBefore 29 = .ok (.iload_n 1, 1) := by decide +kernel
theorem d_X_comesBefore_30 : decode b_X_comesBefore 30 = .ok (.iload 4, 2) := by decide +kernel
theorem d_X_comesBefore_32 : decode b_X_comesBefore 32 = .ok (.iadd, 1) := by decide +kernel
theorem d_X_comesBefore_33 : decode b_X_comesBefore 33 = .ok (.iaload, 1) := by decide +kernel
theorem d_X_comesBefore_34 : decode b_X_comesBefore 34 = .ok (.aload_n 0, 1) := by decide +kernel
theorem d_X_comesBefore_35 : decode b_X_comesBefore 35 = .ok (.getfield 7, 3) := by decide +kernel
theorem d_X_comesBefore_38 : decode b_X_comesBefore 38 = .ok (.iload_n 2, 1) := by decide +kernel
theorem d_X_comesBefore_39 : decode b_X_comesBefore 39 = .ok (.iload 4, 2) := by decide +kernel
theorem d_X_comesBefore_41 : decode b_X_comesBefore 41 = .ok (.iadd, 1) := by decide +kernel
theorem d_X_comesBefore_42 : decode b_X_comesBefore 42 = .ok (.iaload, 1) := by decide +kernel
theorem d_X_comesBefore_43 : decode b_X_comesBefore 43 = .ok (.if_icmp .ge 7, 3) := by decide +kernel
theorem d_X_comesBefore_46 : decode b_X_comesBefore 46 = .ok (.iconst 1, 1) := by decide +kernel
theorem d_X_comesBefore_47 : decode b_X_comesBefore 47 = .ok (.goto 33, 3) := by decide +kernel
theorem d_X_comesBefore_50 : decode b_X_comesBefore 50 = .ok (.iconst 0, 1) := by decide +kernel
theorem d_X_comesBefore_51 : decode b_X_comesBefore 51 = .ok (.goto 29, 3) := by decide +kernel
theorem d_X_comesBefore_54 : decode b_X_comesBefore 54 = .ok (.aload_n 0, 1) := by decide +kernel
theorem d_X_comesBefore_55 : decode b_X_comesBefore 55 = .ok (.getfield 7, 3) := by decide +kernel
theorem d_X_comesBefore_58 : decode b_X_comesBefore 58 = .ok (.iload_n 1, 1) := by decide +kernel
theorem d_X_comesBefore_59 : decode b_X_comesBefore 59 = .ok (.iload 4, 2) := by decide +kernel
theorem d_X_comesBefore_61 : decode b_X_comesBefore 61 = .ok (.iadd, 1) := by decide +kernel
theorem d_X_comesBefore_62 : decode b_X_comesBefore 62 = .ok (.iaload, 1) := by decide +kernel
theorem d_X_comesBefore_63 : decode b_X_comesBefore 63 = .ok (.aload_n 0, 1) := by decide +kernel
theorem d_X_comesBefore_64 : decode b_X_comesBefore 64 = .ok (.getfield 7, 3) := by decide +kernel
theorem d_X_comesBefore_67 : decode b_X_comesBefore 67 = .ok (.iload_n 2, 1) := by decide +kernel
theorem d_X_comesBefore_68 : decode b_X_comesBefore 68 = .ok (.iload 4, 2) := by decide +kernel
theorem d_X_comesBefore_70 : decode b_X_comesBefore 70 = .ok (.iadd, 1) := by decide +kernel
theorem d_X_comesBefore_71 : decode b_X_comesBefore 71 = .ok (.iaload, 1) := by decide +kernel
theorem d_X_comesBefore_72 : decode b_X_comesBefore 72 = .ok (.if_icmp .le 7, 3) := by decide +kernel
theorem d_X_comesBefore_75 : decode b_X_comesBefore 75 = .ok (.iconst 1, 1) := by decide +kernel
theorem d_X_comesBefore_76 : decode b_X_comesBefore 76 = .ok (.goto 4, 3) := by decide +kernel
theorem d_X_comesBefore_79 : decode b_X_comesBefore 79 = .ok (.iconst 0, 1) := by decide +kernel
theorem d_X_comesBefore_80 : decode b_X_comesBefore 80 = .ok (.ireturn, 1) := by decide +kernel
theorem d_X_findEndings_0 : decode b_X_findEndings 0 = .ok (.aload_n 0, 1) := by decide +kernel
theorem d_X_findEndings_1 : decode b_X_findEndings 1 = .ok (.getfield 13, 3) := by decide +kernel
theorem d_X_findEndings_4 : decode b_X_findEndings 4 = .ok (.aload_n 0, 1) := by decide +kernel
theorem d_X_findEndings_5 : decode b_X_findEndings 5 = .ok (.getfield 25, 3) := by decide +kernel
theorem d_X_findEndings_8 : decode b_X_findEndings 8 = .ok (.aload_n 0, 1) := by decide +kernel
theorem d_X_findEndings_9 : decode b_X_findEndings 9 = .ok (.getfield 25, 3) := by decide +kernel
theorem d_X_findEndings_12 : decode b_X_findEndings 12 = .ok (.iastore, 1) := by decide +kernel
theorem d_X_findEndings_13 : decode b_X_findEndings 13 = .ok (.aload_n 0, 1) := by decide +kernel
theorem d_X_findEndings_14 : decode b_X_findEndings 14 = .ok (.getfield 25, 3) := by decide +kernel
theorem d_X_findEndings_17 : decode b_X_findEndings 17 = .ok (.iconst 1, 1) := by decide +kernel
theorem d_X_findEndings_18 : decode b_X_findEndings 18 = .ok (.isub, 1) := by decide +kernel
theorem d_X_findEndings_19 : decode b_X_findEndings 19 = .ok (.istore_n 2, 1) := by decide +kernel
theorem d_X_findEndings_20 : decode b_X_findEndings 20 = .ok (.iload_n 2, 1) := by decide +kernel
theorem d_X_findEndings_21 : decode b_X_findEndings 21 = .ok (.ifCond .lt 68, 3) := by decide +kernel
theorem d_X_findEndings_24 : decode b_X_findEndings 24 = .ok (.iload_n 2, 1) := by decide +kernel
theorem d_X_findEndings_25 : decode b_X_findEndings 25 = .ok (.iconst 1, 1) := by decide +kernel
theorem d_X_findEndings_26 : decode b_X_findEndings 26 = .ok (.iadd, 1) := by decide +kernel
theorem d_X_findEndings_27 : decode b_X_findEndings 27 = .ok (.istore_n 3, 1) := by decide +kernel
theorem d_X_findEndings_28 : decode b_X_findEndings 28 = .ok (.iconst 0, 1) := by decide +kernel
theorem d_X_findEndings_29 : decode b_X_findEndings 29 = .ok (.istore 4, 2) := by decide +kernel
theorem d_X_findEndings_31 : decode b_X_findEndings 31 = .ok (.iload 4, 2) := by decide +kernel
theorem d_X_findEndings_33 : decode b_X_findEndings 33 = .ok (.bipush 48, 2) := by decide +kernel
theorem d_X_findEndings_35 : decode b_X_findEndings 35 = .ok (.if_icmp .ge 41, 3) := by decide +kernel
theorem d_X_findEndings_38 : decode b_X_findEndings 38 = .ok (.iload_n 3, 1) := by decide +kernel
theorem d_X_findEndings_39 : decode b_X_findEndings 39 = .ok (.aload_n 0, 1) := by decide +kernel
theorem d_X_findEndings_40 : decode b_X_findEndings 40 = .ok (.getfield 25, 3) := by decide +kernel
theorem d_X_findEndings_43 : decode b_X_findEndings 43 = .ok (.if_icmp .ge 33, 3) := by decide +kernel
theorem d_X_findEndings_46 : decode b_X_findEndings 46 = .ok (.aload_n 0, 1) := by decide +kernel
theorem d_X_findEndings_47 : decode b_X_findEndings 47 = .ok (.iload_n 3, 1) := by decide +kernel
theorem d_X_findEndings_48 : decode b_X_findEndings 48 = .ok (.iload_n 2, 1) := by decide +kernel
theorem d_X_findEndings_49 : decode b_X_findEndings 49 = .ok (.iload_n 1, 1) := by decide +kernel
theorem d_X_findEndings_50 : decode b_X_findEndings 50 = .ok (.invokevirtual 54, 3) := by decide +kernel
theorem d_X_findEndings_53 : decode b_X_findEndings 53 = .ok (.istore 5, 2) := by decide +kernel
theorem d_X_findEndings_55 : decode b_X_findEndings 55 = .ok (.iload 5, 2) := by decide +kernel
theorem d_X_findEndings_57 : decode b_X_findEndings 57 = .ok (.ifCond .eq 6, 3) := by decide +kernel
theorem d_X_findEndings_60 : decode b_X_findEndings 60 = .ok (.goto 16, 3) := by decide +kernel
theorem d_X_findEndings_63 : decode b_X_findEndings 63 = .ok (.aload_n 0, 1) := by decide +kernel
theorem d_X_findEndings_64 : decode b_X_findEndings 64 = .ok (.getfield 13, 3) := by decide +kernel
theorem d_X_findEndings_67 : decode b_X_findEndings 67 = .ok (.iload_n 3, 1) := by decide +kernel
theorem d_X_findEndings_68 : decode b_X_findEndings 68 = .ok (.iaload, 1) := by decide +kernel
theorem d_X_findEndings_69 : decode b_X_findEndings 69 = .ok (.istore_n 3, 1) := by decide +kernel
theorem d_X_findEndings_70 : decode b_X_findEndings 70 = .ok (.iinc 4 1, 3) := by decide +kernel
theorem d_X_findEndings_73 : decode b_X_findEndings 73 = .ok (.goto (-42), 3) := by decide +kernel
theorem d_X_findEndings_76 : decode b_X_findEndings 76 = .ok (.aload_n 0, 1) := by decide +kernel
theorem d_X_findEndings_77 : decode b_X_findEndings 77 = .ok (.getfield 13, 3) := by decide +kernel
theorem d_X_findEndings_80 : decode b_X_findEndings 80 = .ok (.iload_n 2, 1) := by decide +kernel
theorem d_X_findEndings_81 : decode b_X_findEndings 81 = .ok (.iload_n 3, 1) := by decide +kernel
theorem d_X_findEndings_82 : decode b_X_findEndings 82 = .ok (.iastore, 1) := by decide +kernel
theorem d_X_findEndings_83 : decode b_X_findEndings 83 = .ok (.iinc 2 (-1), 3) := by decide +kernel
theorem d_X_findEndings_86 : decode b_X_findEndings 86 = .ok (.goto (-66), 3) := by decide +kernel
theorem d_X_findEndings_89 : decode b_X_findEndings 89 = .ok (.return_, 1) := by decide +kernel
theorem d_X_refresh_0 : decode b_X_refresh 0 = .ok (.aload_n 0, 1) := by decide +kernel
theorem d_X_refresh_1 : decode b_X_refresh 1 = .ok (.getfield 29, 3) := by decide +kernel
theorem d_X_refresh_4 : decode b_X_refresh 4 = .ok (.ifCond .eq 4, 3) := by decide +kernel
theorem d_X_refresh_7 : decode b_X_refresh 7 = .ok (.return_, 1) := by decide +kernel
theorem d_X_refresh_8 : decode b_X_refresh 8 = .ok (.aload_n 0, 1) := by decide +kernel
theorem d_X_refresh_9 : decode b_X_refresh 9 = .ok (.iconst 1, 1) := by decide +kernel
theorem d_X_refresh_10 : decode b_X_refresh 10 = .ok (.putfield 29, 3) := by decide +kernel
theorem d_X_refresh_13 : decode b_X_refresh 13 = .ok (.aload_n 0, 1) := by decide +kernel
theorem d_X_refresh_14 : decode b_X_refresh 14 = .ok (.iconst 0, 1) := by decide +kernel
theorem d_X_refresh_15 : decode b_X_refresh 15 = .ok (.putfield 40, 3) := by decide +kernel
theorem d_X_refresh_18 : decode b_X_refresh 18 = .ok (.iconst 0, 1) := by decide +kernel
theorem d_X_refresh_19 : decode b_X_refresh 19 = .ok (.istore_n 1, 1) := by decide +kernel
theorem d_X_refresh_20 : decode b_X_refresh 20 = .ok (.iload_n 1, 1) := by decide +kernel
theorem d_X_refresh_21 : decode b_X_refresh 21 = .ok (.iconst 2, 1) := by decide +kernel
theorem d_X_refresh_22 : decode b_X_refresh 22 = .ok (.if_icmp .ge 49, 3) := by decide +kernel
theorem d_X_refresh_25 : decode b_X_refresh 25 = .ok (.aload_n 0, 1) := by decide +kernel
theorem d_X_refresh_26 : decode b_X_refresh 26 = .ok (.iload_n 1, 1) := by decide +kernel
theorem d_X_refresh_27 : decode b_X_refresh 27 = .ok (.ifCond .ne 7, 3) := by decide +kernel
theorem d_X_refresh_30 : decode b_X_refresh 30 = .ok (.iconst 1, 1) := by decide +kernel
theorem d_X_refresh_31 : decode b_X_refresh 31 = .ok (.goto 4, 3) := by decide +kernel
theorem d_X_refresh_34 : decode b_X_refresh 34 = .ok (.iconst 0, 1) := by decide +kernel
theorem d_X_refresh_35 : decode b_X_refresh 35 = .ok (.invokevirtual 50, 3) := by decide +kernel
theorem d_X_refresh_38 : decode b_X_refresh 38 = .ok (.iconst 0, 1) := by decide +kernel
theorem d_X_refresh_39 : decode b_X_refresh 39 = .ok (.istore_n 2, 1) := by decide +kernel
theorem d_X_refresh_40 : decode b_X_refresh 40 = .ok (.iload_n 2, 1) := by decide +kernel
theorem d_X_refresh_41 : decode b_X_refresh 41 = .ok (.aload_n 0, 1) := by decide +kernel
theorem d_X_refresh_42 : decode b_X_refresh 42 = .ok (.getfield 25, 3) := by decide +kernel
theorem d_X_refresh_45 : decode b_X_refresh 45 = .ok (.if_icmp .ge 20, 3) := by decide +kernel
theorem d_X_refresh_48 : decode b_X_refresh 48 = .ok (.aload_n 0, 1) := by decide +kernel
theorem d_X_refresh_49 : decode b_X_refresh 49 = .ok (.iload_n 2, 1) := by decide +kernel
theorem d_X_refresh_50 : decode b_X_refresh 50 = .ok (.aload_n 0, 1) := by decide +kernel
theorem d_X_refresh_51 : decode b_X_refresh 51 = .ok (.getfield 13, 3) := by decide +kernel
theorem d_X_refresh_54 : decode b_X_refresh 54 = .ok (.iload_n 2, 1) := by decide +kernel
theorem d_X_refresh_55 : decode b_X_refresh 55 = .ok (.iaload, 1) := by decide +kernel
theorem d_X_refresh_56 : decode b_X_refresh 56 = .ok (.invokevirtual 58, 3) := by decide +kernel
theorem d_X_refresh_59 : decode b_X_refresh 59 = .ok (.iinc 2 1, 3) := by decide +kernel
theorem d_X_refresh_62 : decode b_X_refresh 62 = .ok (.goto (-22), 3) := by decide +kernel
theorem d_X_refresh_65 : decode b_X_refresh 65 = .ok (.iinc 1 1, 3) := by decide +kernel
theorem d_X_refresh_68 : decode b_X_refresh 68 = .ok (.goto (-48), 3) := by decide +kernel
theorem d_X_refresh_71 : decode b_X_refresh 71 = .ok (.return_, 1) := by decide +kernel
theorem d_X_widen_0 : decode b_X_widen 0 = .ok (.iload_n 2, 1) := by decide +kernel
theorem d_X_widen_1 : decode b_X_widen 1 = .ok (.iload_n 1, 1) := by decide +kernel
theorem d_X_widen_2 : decode b_X_widen 2 = .ok (.isub, 1) := by decide +kernel
theorem d_X_widen_3 : decode b_X_widen 3 = .ok (.istore_n 3, 1) := by decide +kernel
theorem d_X_widen_4 : decode b_X_widen 4 = .ok (.iload_n 2, 1) := by decide +kernel
theorem d_X_widen_5 : decode b_X_widen 5 = .ok (.aload_n 0, 1) := by decide +kernel
theorem d_X_widen_6 : decode b_X_widen 6 = .ok (.getfield 25, 3) := by decide +kernel
theorem d_X_widen_9 : decode b_X_widen 9 = .ok (.if_icmp .ge 12, 3) := by decide +kernel
theorem d_X_widen_12 : decode b_X_widen 12 = .ok (.aload_n 0, 1) := by decide +kernel
theorem d_X_widen_13 : decode b_X_widen 13 = .ok (.iload_n 1, 1) := by decide +kernel
theorem d_X_widen_14 : decode b_X_widen 14 = .ok (.iload_n 2, 1) := by decide +kernel
theorem d_X_widen_15 : decode b_X_widen 15 = .ok (.invokevirtual 46, 3) := by decide +kernel
theorem d_X_widen_18 : decode b_X_widen 18 = .ok (.goto 4, 3) := by decide +kernel
theorem d_X_widen_21 : decode b_X_widen 21 = .ok (.iconst 0, 1) := by decide +kernel
theorem d_X_widen_22 : decode b_X_widen 22 = .ok (.istore 4, 2) := by decide +kernel
theorem d_X_widen_24 : decode b_X_widen 24 = .ok (.aload_n 0, 1) := by decide +kernel
theorem d_X_widen_25 : decode b_X_widen 25 = .ok (.iload_n 1, 1) := by decide +kernel
theorem d_X_widen_26 : decode b_X_widen 26 = .ok (.iload_n 2, 1) := by decide +kernel
theorem d_X_widen_27 : decode b_X_widen 27 = .ok (.invokevirtual 62, 3) := by decide +kernel
theorem d_X_widen_30 : decode b_X_widen 30 = .ok (.istore 5, 2) := by decide +kernel
theorem d_X_widen_32 : decode b_X_widen 32 = .ok (.iload 5, 2) := by decide +kernel
theorem d_X_widen_34 : decode b_X_widen 34 = .ok (.iload 4, 2) := by decide +kernel
theorem d_X_widen_36 : decode b_X_widen 36 = .ok (.iadd, 1) := by decide +kernel
theorem d_X_widen_37 : decode b_X_widen 37 = .ok (.iload_n 3, 1) := by decide +kernel
theorem d_X_widen_38 : decode b_X_widen 38 = .ok (.if_icmp .lt 18, 3) := by decide +kernel
theorem d_X_widen_41 : decode b_X_widen 41 = .ok (.aload_n 0, 1) := by decide +kernel
theorem d_X_widen_42 : decode b_X_widen 42 = .ok (.iload_n 1, 1) := by decide +kernel
theorem d_X_widen_43 : decode b_X_widen 43 = .ok (.iload 5, 2) := by decide +kernel
theorem d_X_widen_45 : decode b_X_widen 45 = .ok (.isub, 1) := by decide +kernel
theorem d_X_widen_46 : decode b_X_widen 46 = .ok (.iload_n 2, 1) := by decide +kernel
theorem d_X_widen_47 : decode b_X_widen 47 = .ok (.iload 4, 2) := by decide +kernel
theorem d_X_widen_49 : decode b_X_widen 49 = .ok (.iadd, 1) := by decide +kernel
theorem d_X_widen_50 : decode b_X_widen 50 = .ok (.iconst 1, 1) := by decide +kernel
theorem d_X_widen_51 : decode b_X_widen 51 = .ok (.isub, 1) := by decide +kernel
theorem d_X_widen_52 : decode b_X_widen 52 = .ok (.iload_n 3, 1) := by decide +kernel
theorem d_X_widen_53 : decode b_X_widen 53 = .ok (.invokevirtual 65, 3) := by decide +kernel
theorem d_X_widen_56 : decode b_X_widen 56 = .ok (.return_, 1) := by decide +kernel
theorem d_X_insert_0 : decode b_X_insert 0 = .ok (.aload_n 0, 1) := by decide +kernel
theorem d_X_insert_1 : decode b_X_insert 1 = .ok (.getfield 40, 3) := by decide +kernel
theorem d_X_insert_4 : decode b_X_insert 4 = .ok (.istore 4, 2) := by decide +kernel
theorem d_X_insert_6 : decode b_X_insert 6 = .ok (.iload 4, 2) := by decide +kernel
theorem d_X_insert_8 : decode b_X_insert 8 = .ok (.ifCond .le 48, 3) := by decide +kernel
theorem d_X_insert_11 : decode b_X_insert 11 = .ok (.aload_n 0, 1) := by decide +kernel
theorem d_X_insert_12 : decode b_X_insert 12 = .ok (.getfield 16, 3) := by decide +kernel
theorem d_X_insert_15 : decode b_X_insert 15 = .ok (.iload 4, 2) := by decide +kernel
theorem d_X_insert_17 : decode b_X_insert 17 = .ok (.iconst 1, 1) := by decide +kernel
theorem d_X_insert_18 : decode b_X_insert 18 = .ok (.isub, 1) := by decide +kernel
theorem d_X_insert_19 : decode b_X_insert 19 = .ok (.iaload, 1) := by decide +kernel
theorem d_X_insert_20 : decode b_X_insert 20 = .ok (.iload_n 1, 1) := by decide +kernel
theorem d_X_insert_21 : decode b_X_insert 21 = .ok (.if_icmp .gt 29, 3) := by decide +kernel
theorem d_X_insert_24 : decode b_X_insert 24 = .ok (.aload_n 0, 1) := by decide +kernel
theorem d_X_insert_25 : decode b_X_insert 25 = .ok (.getfield 16, 3) := by decide +kernel
theorem d_X_insert_28 : decode b_X_insert 28 = .ok (.iload 4, 2) := by decide +kernel
theorem d_X_insert_30 : decode b_X_insert 30 = .ok (.iconst 1, 1) := by decide +kernel
theorem d_X_insert_31 : decode b_X_insert 31 = .ok (.isub, 1) := by decide +kernel
theorem d_X_insert_32 : decode b_X_insert 32 = .ok (.iaload, 1) := by decide +kernel
theorem d_X_insert_33 : decode b_X_insert 33 = .ok (.iload_n 1, 1) := by decide +kernel
theorem d_X_insert_34 : decode b_X_insert 34 = .ok (.if_icmp .ne 22, 3) := by decide +kernel
theorem d_X_insert_37 : decode b_X_insert 37 = .ok (.aload_n 0, 1) := by decide +kernel
theorem d_X_insert_38 : decode b_X_insert 38 = .ok (.getfield 22, 3) := by decide +kernel
theorem d_X_insert_41 : decode b_X_insert 41 = .ok (.iload 4, 2) := by decide +kernel
theorem d_X_insert_43 : decode b_X_insert 43 = .ok (.iconst 1, 1) := by decide +kernel
theorem d_X_insert_44 : decode b_X_insert 44 = .ok (.isub, 1) := by decide +kernel
theorem d_X_insert_45 : decode b_X_insert 45 = .ok (.iaload, 1) := by decide +kernel
theorem d_X_insert_46 : decode b_X_insert 46 = .ok (.iload_n 3, 1) := by decide +kernel
theorem d_X_insert_47 : decode b_X_insert 47 = .ok (.if_icmp .le 9, 3) := by decide +kernel
theorem d_X_insert_50 : decode b_X_insert 50 = .ok (.iinc 4 (-1), 3) := by decide +kernel
theorem d_X_insert_53 : decode b_X_insert 53 = .ok (.goto (-47), 3) := by decide +kernel
theorem d_X_insert_56 : decode b_X_insert 56 = .ok (.iload 4, 2) := by decide +kernel
theorem d_X_insert_58 : decode b_X_insert 58 = .ok (.ifCond .le 29, 3) := by decide +kernel
theorem d_X_insert_61 : decode b_X_insert 61 = .ok (.aload_n 0, 1) := by decide +kernel
theorem d_X_insert_62 : decode b_X_insert 62 = .ok (.getfield 16, 3) := by decide +kernel
theorem d_X_insert_65 : decode b_X_insert 65 = .ok (.iload 4, 2) := by decide +kernel
theorem d_X_insert_67 : decode b_X_insert 67 = .ok (.iconst 1, 1) := by decide +kernel
theorem d_X_insert_68 : decode b_X_insert 68 = .ok (.isub, 1) := by decide +kernel
theorem d_X_insert_69 : decode b_X_insert 69 = .ok (.iaload, 1) := by decide +kernel
theorem d_X_insert_70 : decode b_X_insert 70 = .ok (.iload_n 1, 1) := by decide +kernel
theorem d_X_insert_71 : decode b_X_insert 71 = .ok (.if_icmp .ne 16, 3) := by decide +kernel
theorem d_X_insert_74 : decode b_X_insert 74 = .ok (.aload_n 0, 1) := by decide +kernel
theorem d_X_insert_75 : decode b_X_insert 75 = .ok (.getfield 22, 3) := by decide +kernel
theorem d_X_insert_78 : decode b_X_insert 78 = .ok (.iload 4, 2) := by decide +kernel
theorem d_X_insert_80 : decode b_X_insert 80 = .ok (.iconst 1, 1) := by decide +kernel
theorem d_X_insert_81 : decode b_X_insert 81 = .ok (.isub, 1) := by decide +kernel
theorem d_X_insert_82 : decode b_X_insert 82 = .ok (.iaload, 1) := by decide +kernel
theorem d_X_insert_83 : decode b_X_insert 83 = .ok (.iload_n 3, 1) := by decide +kernel
theorem d_X_insert_84 : decode b_X_insert 84 = .ok (.if_icmp .eq 12, 3) := by decide +kernel
theorem d_X_insert_87 : decode b_X_insert 87 = .ok (.aload_n 0, 1) := by decide +kernel
theorem d_X_insert_88 : decode b_X_insert 88 = .ok (.getfield 40, 3) := by decide +kernel
theorem d_X_insert_91 : decode b_X_insert 91 = .ok (.bipush 100, 2) := by decide +kernel
theorem d_X_insert_93 : decode b_X_insert 93 = .ok (.if_icmp .ne 4, 3) := by decide +kernel
theorem d_X_insert_96 : decode b_X_insert 96 = .ok (.return_, 1) := by decide +kernel
theorem d_X_insert_97 : decode b_X_insert 97 = .ok (.aload_n 0, 1) := by decide +kernel
theorem d_X_insert_98 : decode b_X_insert 98 = .ok (.getfield 40, 3) := by decide +kernel
theorem d_X_insert_101 : decode b_X_insert 101 = .ok (.istore 5, 2) := by decide +kernel
theorem d_X_insert_103 : decode b_X_insert 103 = .ok (.iload 5, 2) := by decide +kernel
theorem d_X_insert_105 : decode b_X_insert 105 = .ok (.iload 4, 2) := by decide +kernel
theorem d_X_insert_107 : decode b_X_insert 107 = .ok (.if_icmp .le 57, 3) := by decide +kernel
theorem d_X_insert_110 : decode b_X_insert 110 = .ok (.aload_n 0, 1) := by decide +kernel
theorem d_X_insert_111 : decode b_X_insert 111 = .ok (.getfield 16, 3) := by decide +kernel
theorem d_X_insert_114 : decode b_X_insert 114 = .ok (.iload 5, 2) := by decide +kernel
theorem d_X_insert_116 : decode b_X_insert 116 = .ok (.aload_n 0, 1) := by decide +kernel
theorem d_X_insert_117 : decode b_X_insert 117 = .ok (.getfield 16, 3) := by decide +kernel
theorem d_X_insert_120 : decode b_X_insert 120 = .ok (.iload 5, 2) := by decide +kernel
theorem d_X_insert_122 : decode b_X_insert 122 = .ok (.iconst 1, 1) := by decide +kernel
theorem d_X_insert_123 : decode b_X_insert 123 = .ok (.isub, 1) := by decide +kernel
theorem d_X_insert_124 : decode b_X_insert 124 = .ok (.iaload, 1) := by decide +kernel
theorem d_X_insert_125 : decode b_X_insert 125 = .ok (.iastore, 1) := by decide +kernel
theorem d_X_insert_126 : decode b_X_insert 126 = .ok (.aload_n 0, 1) := by decide +kernel
theorem d_X_insert_127 : decode b_X_insert 127 = .ok (.getfield 19, 3) := by decide +kernel
theorem d_X_insert_130 : decode b_X_insert 130 = .ok (.iload 5, 2) := by decide +kernel
theorem d_X_insert_132 : decode b_X_insert 132 = .ok (.aload_n 0, 1) := by decide +kernel
theorem d_X_insert_133 : decode b_X_insert 133 = .ok (.getfield 19, 3) := by decide +kernel
theorem d_X_insert_136 : decode b_X_insert 136 = .ok (.iload 5, 2) := by decide +kernel
theorem d_X_insert_138 : decode b_X_insert 138 = .ok (.iconst 1, 1) := by decide +kernel
theorem d_X_insert_139 : decode b_X_insert 139 = .ok (.isub, 1) := by decide +kernel
theorem d_X_insert_140 : decode b_X_insert 140 = .ok (.iaload, 1) := by decide +kernel
theorem d_X_insert_141 : decode b_X_insert 141 = .ok (.iastore, 1) := by decide +kernel
theorem d_X_insert_142 : decode b_X_insert 142 = .ok (.aload_n 0, 1) := by decide +kernel
theorem d_X_insert_143 : decode b_X_insert 143 = .ok (.getfield 22, 3) := by decide +kernel
theorem d_X_insert_146 : decode b_X_insert 146 = .ok (.iload 5, 2) := by decide +kernel
theorem d_X_insert_148 : decode b_X_insert 148 = .ok (.aload_n 0, 1) := by decide +kernel
theorem d_X_insert_149 : decode b_X_insert 149 = .ok (.getfield 22, 3) := by decide +kernel
theorem d_X_insert_152 : decode b_X_insert 152 = .ok (.iload 5, 2) := by decide +kernel
theorem d_X_insert_154 : decode b_X_insert 154 = .ok (.iconst 1, 1) := by decide +kernel
theorem d_X_insert_155 : decode b_X_insert 155 = .ok (.isub, 1) := by decide +kernel
theorem d_X_insert_156 : decode b_X_insert 156 = .ok (.iaload, 1) := by decide +kernel
theorem d_X_insert_157 : decode b_X_insert 157 = .ok (.iastore, 1) := by decide +kernel
theorem d_X_insert_158 : decode b_X_insert 158 = .ok (.iinc 5 (-1), 3) := by decide +kernel
theorem d_X_insert_161 : decode b_X_insert 161 = .ok (.goto (-58), 3) := by decide +kernel
theorem d_X_insert_164 : decode b_X_insert 164 = .ok (.aload_n 0, 1) := by decide +kernel
theorem d_X_insert_165 : decode b_X_insert 165 = .ok (.getfield 16, 3) := by decide +kernel
theorem d_X_insert_168 : decode b_X_insert 168 = .ok (.iload 4, 2) := by decide +kernel
theorem d_X_insert_170 : decode b_X_insert 170 = .ok (.iload_n 1, 1) := by decide +kernel
theorem d_X_insert_171 : decode b_X_insert 171 = .ok (.iastore, 1) := by decide +kernel
theorem d_X_insert_172 : decode b_X_insert 172 = .ok (.aload_n 0, 1) := by decide +kernel
theorem d_X_insert_173 : decode b_X_insert 173 = .ok (.getfield 19, 3) := by decide +kernel
theorem d_X_insert_176 : decode b_X_insert 176 = .ok (.iload 4, 2) := by decide +kernel
theorem d_X_insert_178 : decode b_X_insert 178 = .ok (.iload_n 2, 1) := by decide +kernel
theorem d_X_insert_179 : decode b_X_insert 179 = .ok (.iastore, 1) := by decide +kernel
theorem d_X_insert_180 : decode b_X_insert 180 = .ok (.aload_n 0, 1) := by decide +kernel
theorem d_X_insert_181 : decode b_X_insert 181 = .ok (.getfield 22, 3) := by decide +kernel
theorem d_X_insert_184 : decode b_X_insert 184 = .ok (.iload 4, 2) := by decide +kernel
theorem d_X_insert_186 : decode b_X_insert 186 = .ok (.iload_n 3, 1) := by decide +kernel
theorem d_X_insert_187 : decode b_X_insert 187 = .ok (.iastore, 1) := by decide +kernel
theorem d_X_insert_188 : decode b_X_insert 188 = .ok (.aload_n 0, 1) := by decide +kernel
theorem d_X_insert_189 : decode b_X_insert 189 = .ok (.dup, 1) := by decide +kernel
theorem d_X_insert_190 : decode b_X_insert 190 = .ok (.getfield 40, 3) := by decide +kernel
theorem d_X_insert_193 : decode b_X_insert 193 = .ok (.iconst 1, 1) := by decide +kernel
theorem d_X_insert_194 : decode b_X_insert 194 = .ok (.iadd, 1) := by decide +kernel
theorem d_X_insert_195 : decode b_X_insert 195 = .ok (.putfield 40, 3) := by decide +kernel
theorem d_X_insert_198 : decode b_X_insert 198 = .ok (.return_, 1) := by decide +kernel
end
section
theorem d_M_init_0 : decode b_M_init 0 = .ok (.aload_n 0, 1) := by decide +kernel
theorem d_M_init_1 : decode b_M_init 1 = .ok (.invokespecial 1, 3) := by decide +kernel
theorem d_M_init_4 : decode b_M_init 4 = .ok (.aload_n 0, 1) := by decide +kernel
theorem d_M_init_5 : decode b_M_init 5 = .ok (.bipush 48, 2) := by decide +kernel
theorem d_M_init_7 : decode b_M_init 7 = .ok (.newarray .int, 2) := by decide +kernel
theorem d_M_init_9 : decode b_M_init 9 = .ok (.putfield 7, 3) := by decide +kernel
theorem d_M_init_12 : decode b_M_init 12 = .ok (.aload_n 0, 1) := by decide +kernel
theorem d_M_init_13 : decode b_M_init 13 = .ok (.bipush 48, 2) := by decide +kernel
theorem d_M_init_15 : decode b_M_init 15 = .ok (.newarray .int, 2) := by decide +kernel
theorem d_M_init_17 : decode b_M_init 17 = .ok (.putfield 13, 3) := by decide +kernel
theorem d_M_init_20 : decode b_M_init 20 = .ok (.aload_n 0, 1) := by decide +kernel
theorem d_M_init_21 : decode b_M_init 21 = .ok (.bipush 96, 2) := by decide +kernel
theorem d_M_init_23 : decode b_M_init 23 = .ok (.newarray .int, 2) := by decide +kernel
theorem d_M_init_25 : decode b_M_init 25 = .ok (.putfield 16, 3) := by decide +kernel
theorem d_M_init_28 : decode b_M_init 28 = .ok (.aload_n 0, 1) := by decide +kernel
theorem d_M_init_29 : decode b_M_init 29 = .ok (.bipush 96, 2) := by decide +kernel
theorem d_M_init_31 : decode b_M_init 31 = .ok (.newarray .int, 2) := by decide +kernel
theorem d_M_init_33 : decode b_M_init 33 = .ok (.putfield 19, 3) := by decide +kernel
theorem d_M_init_36 : decode b_M_init 36 = .ok (.aload_n 0, 1) := by decide +kernel
theorem d_M_init_37 : decode b_M_init 37 = .ok (.bipush 96, 2) := by decide +kernel
theorem d_M_init_39 : decode b_M_init 39 = .ok (.newarray .int, 2) := by decide +kernel
theorem d_M_init_41 : decode b_M_init 41 = .ok (.putfield 22, 3) := by decide +kernel
theorem d_M_init_44 : decode b_M_init 44 = .ok (.return_, 1) := by decide +kernel
theorem d_M_bad_0 : decode b_M_bad 0 = .ok (.iload_n 1, 1) := by decide +kernel
theorem d_M_bad_1 : decode b_M_bad 1 = .ok (.ifCond .lt 17, 3) := by decide +kernel
theorem d_M_bad_4 : decode b_M_bad 4 = .ok (.iload_n 1, 1) := by decide +kernel
theorem d_M_bad_5 : decode b_M_bad 5 = .ok (.aload_n 0, 1) := by decide +kernel
theorem d_M_bad_6 : decode b_M_bad 6 = .ok (.getfield 25, 3) := by decide +kernel
theorem d_M_bad_9 : decode b_M_bad 9 = .ok (.if_icmp .ge 9, 3) := by decide +kernel
theorem d_M_bad_12 : decode b_M_bad 12 = .ok (.iload_n 1, 1) := by decide +kernel
theorem d_M_bad_13 : decode b_M_bad 13 = .ok (.bipush 48, 2) := by decide +kernel
theorem d_M_bad_15 : decode b_M_bad 15 = .ok (.if_icmp .lt 7, 3) := by decide +kernel
theorem d_M_bad_18 : decode b_M_bad 18 = .ok (.iconst 1, 1) := by decide +kernel
theorem d_M_bad_19 : decode b_M_bad 19 = .ok (.goto 4, 3) := by decide +kernel
theorem d_M_bad_22 : decode b_M_bad 22 = .ok (.iconst 0, 1) := by decide +kernel
theorem d_M_bad_23 : decode b_M_bad 23 = .ok (.ireturn, 1) := by decide +kernel
theorem d_M_push_0 : decode b_M_push 0 = .ok (.iload_n 1, 1) := by decide +kernel
theorem d_M_push_1 : decode b_M_push 1 = .ok (.ifCond .lt 8, 3) := by decide +kernel
theorem d_M_push_4 : decode b_M_push 4 = .ok (.iload_n 1, 1) := by decide +kernel
theorem d_M_push_5 : decode b_M_push 5 = .ok (.iconst 3, 1) := by decide +kernel
theorem d_M_push_6 : decode b_M_push 6 = .ok (.if_icmp .le 5, 3) := by decide +kernel
theorem d_M_push_9 : decode b_M_push 9 = .ok (.iconst (-1), 1) := by decide +kernel
theorem d_M_push_10 : decode b_M_push 10 = .ok (.ireturn, 1) := by decide +kernel
theorem d_M_push_11 : decode b_M_push 11 = .ok (.aload_n 0, 1) := by decide +kernel
theorem d_M_push_12 : decode b_M_push 12 = .ok (.getfield 25, 3) := by decide +kernel
theorem d_M_push_15 : decode b_M_push 15 = .ok (.istore_n 2, 1) := by decide +kernel
theorem d_M_push_16 : decode b_M_push 16 = .ok (.iload_n 2, 1) := by decide +kernel
theorem d_M_push_17 : decode b_M_push 17 = .ok (.bipush 48, 2) := by decide +kernel
theorem d_M_push_19 : decode b_M_push 19 = .ok (.if_icmp .lt 6, 3) := by decide +kernel
theorem d_M_push_22 : decode b_M_push 22 = .ok (.bipush (-2), 2) := by decide +kernel
theorem d_M_push_24 : decode b_M_push 24 = .ok (.ireturn, 1) := by decide +kernel
theorem d_M_push_25 : decode b_M_push 25 = .ok (.aload_n 0, 1) := by decide +kernel
theorem d_M_push_26 : decode b_M_push 26 = .ok (.getfield 7, 3) := by decide +kernel
theorem d_M_push_29 : decode b_M_push 29 = .ok (.iload_n 2, 1) := by decide +kernel
theorem d_M_push_30 : decode b_M_push 30 = .ok (.iload_n 1, 1) := by decide +kernel
theorem d_M_push_31 : decode b_M_push 31 = .ok (.iastore, 1) := by decide +kernel
theorem d_M_push_32 : decode b_M_push 32 = .ok (.aload_n 0, 1) := by decide +kernel
theorem d_M_push_33 : decode b_M_push 33 = .ok (.iload_n 2, 1) := by decide +kernel
theorem d_M_push_34 : decode b_M_push 34 = .ok (.iconst 1, 1) := by decide +kernel
theorem d_M_push_35 : decode b_M_push 35 = .ok (.iadd, 1) := by decide +kernel
theorem d_M_push_36 : decode b_M_push 36 = .ok (.putfield 25, 3) := by decide +kernel
theorem d_M_push_39 : decode b_M_push 39 = .ok (.aload_n 0, 1) := by decide +kernel
theorem d_M_push_40 : decode b_M_push 40 = .ok (.getfield 25, 3) := by decide +kernel
theorem d_M_push_43 : decode b_M_push 43 = .ok (.ireturn, 1) := by decide +kernel
theorem d_M_pop_0 : decode b_M_pop 0 = .ok (.iload_n 1, 1) := by decide +kernel
theorem d_M_pop_1 : decode b_M_pop 1 = .ok (.ifCond .lt 11, 3) := by decide +kernel
theorem d_M_pop_4 : decode b_M_pop 4 = .ok (.iload_n 1, 1) := by decide +kernel
theorem d_M_pop_5 : decode b_M_pop 5 = .ok (.aload_n 0, 1) := by decide +kernel
theorem d_M_pop_6 : decode b_M_pop 6 = .ok (.getfield 25, 3) := by decide +kernel
theorem d_M_pop_9 : decode b_M_pop 9 = .ok (.if_icmp .le 5, 3) := by decide +kernel
theorem d_M_pop_12 : decode b_M_pop 12 = .ok (.iconst (-1), 1) := by decide +kernel
theorem d_M_pop_13 : decode b_M_pop 13 = .ok (.ireturn, 1) := by decide +kernel
theorem d_M_pop_14 : decode b_M_pop 14 = .ok (.aload_n 0, 1) := by decide +kernel
theorem d_M_pop_15 : decode b_M_pop 15 = .ok (.dup, 1) := by decide +kernel
theorem d_M_pop_16 : decode b_M_pop 16 = .ok (.getfield 25, 3) := by decide +kernel
theorem d_M_pop_19 : decode b_M_pop 19 = .ok (.iload_n 1, 1) := by decide +kernel
theorem d_M_pop_20 : decode b_M_pop 20 = .ok (.isub, 1) := by decide +kernel
theorem d_M_pop_21 : decode b_M_pop 21 = .ok (.putfield 25, 3) := by decide +kernel
theorem d_M_pop_24 : decode b_M_pop 24 = .ok (.aload_n 0, 1) := by decide +kernel
theorem d_M_pop_25 : decode b_M_pop 25 = .ok (.getfield 25, 3) := by decide +kernel
theorem d_M_pop_28 : decode b_M_pop 28 = .ok (.ireturn, 1) := by decide +kernel
theorem d_M_repeat_0 : decode b_M_repeat 0 = .ok (.aload_n 0, 1) := by decide +kernel
theorem d_M_repeat_1 : decode b_M_repeat 1 = .ok (.iload_n 1, 1) := by decide +kernel
theorem d_M_repeat_2 : decode b_M_repeat 2 = .ok (.invokevirtual 29, 3) := by decide +kernel
theorem d_M_repeat_5 : decode b_M_repeat 5 = .ok (.ifCond .eq 5, 3) := by decide +kernel
theorem d_M_repeat_8 : decode b_M_repeat 8 = .ok (.iconst (-1), 1) := by decide +kernel
theorem d_M_repeat_9 : decode b_M_repeat 9 = .ok (.ireturn, 1) := by decide +kernel
theorem d_M_repeat_10 : decode b_M_repeat 10 = .ok (.iload_n 2, 1) := by decide +kernel
theorem d_M_repeat_11 : decode b_M_repeat 11 = .ok (.iconst 1, 1) := by decide +kernel
theorem d_M_repeat_12 : decode b_M_repeat 12 = .ok (.if_icmp .lt 9, 3) := by decide +kernel
theorem d_M_repeat_15 : decode b_M_repeat 15 = .ok (.iload_n 2, 1) := by decide +kernel
theorem d_M_repeat_16 : decode b_M_repeat 16 = .ok (.bipush 48, 2) := by decide +kernel
theorem d_M_repeat_18 : decode b_M_repeat 18 = .ok (.if_icmp .le 6, 3) := by decide +kernel
theorem d_M_repeat_21 : decode b_M_repeat 21 = .ok (.bipush (-2), 2) := by decide +kernel
theorem d_M_repeat_23 : decode b_M_repeat 23 = .ok (.ireturn, 1) := by decide +kernel
theorem d_M_repeat_24 : decode b_M_repeat 24 = .ok (.aload_n 0, 1) := by decide +kernel
theorem d_M_repeat_25 : decode b_M_repeat 25 = .ok (.getfield 25, 3) := by decide +kernel
theorem d_M_repeat_28 : decode b_M_repeat 28 = .ok (.iload_n 2, 1) := by decide +kernel
theorem d_M_repeat_29 : decode b_M_repeat 29 = .ok (.iadd, 1) := by decide +kernel
theorem d_M_repeat_30 : decode b_M_repeat 30 = .ok (.bipush 48, 2) := by decide +kernel
theorem d_M_repeat_32 : decode b_M_repeat 32 = .ok (.if_icmp .le 6, 3) := by decide +kernel
theorem d_M_repeat_35 : decode b_M_repeat 35 = .ok (.bipush (-3), 2) := by decide +kernel
theorem d_M_repeat_37 : decode b_M_repeat 37 = .ok (.ireturn, 1) := by decide +kernel
theorem d_M_repeat_38 : decode b_M_repeat 38 = .ok (.aload_n 0, 1) := by decide +kernel
theorem d_M_repeat_39 : decode b_M_repeat 39 = .ok (.getfield 25, 3) := by decide +kernel
theorem d_M_repeat_42 : decode b_M_repeat 42 = .ok (.istore_n 3, 1) := by decide +kernel
theorem d_M_repeat_43 : decode b_M_repeat 43 = .ok (.iconst 0, 1) := by decide +kernel
theorem d_M_repeat_44 : decode b_M_repeat 44 = .ok (.istore 4, 2) := by decide +kernel
theorem d_M_repeat_46 : decode b_M_repeat 46 = .ok (.iload 4, 2) := by decide +kernel
theorem d_M_repeat_48 : decode b_M_repeat 48 = .ok (.iload_n 2, 1) := by decide +kernel
theorem d_M_repeat_49 : decode b_M_repeat 49 = .ok (.if_icmp .ge 27, 3) := by decide +kernel
theorem d_M_repeat_52 : decode b_M_repeat 52 = .ok (.aload_n 0, 1) := by decide +kernel
theorem d_M_repeat_53 : decode b_M_repeat 53 = .ok (.getfield 7, 3) := by decide +kernel
theorem d_M_repeat_56 : decode b_M_repeat 56 = .ok (.iload_n 3, 1) := by decide +kernel
theorem d_M_repeat_57 : decode b_M_repeat 57 = .ok (.iload 4, 2) := by decide +kernel
theorem d_M_repeat_59 : decode b_M_repeat 59 = .ok (.iadd, 1) := by decide +kernel
theorem d_M_repeat_60 : decode b_M_repeat 60 = .ok (.aload_n 0, 1) := by decide +kernel
theorem d_M_repeat_61 : decode b_M_repeat 61 = .ok (.getfield 7, 3) := by decide +kernel
theorem d_M_repeat_64 : decode b_M_repeat 64 = .ok (.iload_n 1, 1) := by decide +kernel
theorem d_M_repeat_65 : decode b_M_repeat 65 = .ok (.iload 4, 2) := by decide +kernel
theorem d_M_repeat_67 : decode b_M_repeat 67 = .ok (.iadd, 1) := by decide +kernel
theorem d_M_repeat_68 : decode b_M_repeat 68 = .ok (.iaload, 1) := by decide +kernel
theorem d_M_repeat_69 : decode b_M_repeat 69 = .ok (.iastore, 1) := by decide +kernel
theorem d_M_repeat_70 : decode b_M_repeat 70 = .ok (.iinc 4 1, 3) := by decide +kernel
theorem d_M_repeat_73 : decode b_M_repeat 73 = .ok (.goto (-27), 3) := by decide +kernel
theorem d_M_repeat_76 : decode b_M_repeat 76 = .ok (.aload_n 0, 1) := by decide +kernel
theorem d_M_repeat_77 : decode b_M_repeat 77 = .ok (.iload_n 3, 1) := by decide +kernel
theorem d_M_repeat_78 : decode b_M_repeat 78 = .ok (.iload_n 2, 1) := by decide +kernel
theorem d_M_repeat_79 : decode b_M_repeat 79 = .ok (.iadd, 1) := by decide +kernel
theorem d_M_repeat_80 : decode b_M_repeat 80 = .ok (.putfield 25, 3) := by decide +kernel
theorem d_M_repeat_83 : decode b_M_repeat 83 = .ok (.aload_n 0, 1) := by decide +kernel
theorem d_M_repeat_84 : decode b_M_repeat 84 = .ok (.getfield 25, 3) := by decide +kernel
theorem d_M_repeat_87 : decode b_M_repeat 87 = .ok (.ireturn, 1) := by decide +kernel
theorem d_M_set_0 : decode b_M_set 0 = .ok (.aload_n 0, 1) := by decide +kernel
theorem d_M_set_1 : decode b_M_set 1 = .ok (.iload_n 1, 1) := by decide +kernel
theorem d_M_set_2 : decode b_M_set 2 = .ok (.invokevirtual 29, 3) := by decide +kernel
theorem d_M_set_5 : decode b_M_set 5 = .ok (.ifCond .eq 5, 3) := by decide +kernel
theorem d_M_set_8 : decode b_M_set 8 = .ok (.iconst (-1), 1) := by decide +kernel
theorem d_M_set_9 : decode b_M_set 9 = .ok (.ireturn, 1) := by decide +kernel
theorem d_M_set_10 : decode b_M_set 10 = .ok (.iload_n 2, 1) := by decide +kernel
theorem d_M_set_11 : decode b_M_set 11 = .ok (.ifCond .lt 8, 3) := by decide +kernel
theorem d_M_set_14 : decode b_M_set 14 = .ok (.iload_n 2, 1) := by decide +kernel
theorem d_M_set_15 : decode b_M_set 15 = .ok (.iconst 3, 1) := by decide +kernel
theorem d_M_set_16 : decode b_M_set 16 = .ok (.if_icmp .le 6, 3) := by decide +kernel
theorem d_M_set_19 : decode b_M_set 19 = .ok (.bipush (-2), 2) := by decide +kernel
theorem d_M_set_21 : decode b_M_set 21 = .ok (.ireturn, 1) := by decide +kernel
theorem d_M_set_22 : decode b_M_set 22 = .ok (.aload_n 0, 1) := by decide +kernel
theorem d_M_set_23 : decode b_M_set 23 = .ok (.getfield 7, 3) := by decide +kernel
theorem d_M_set_26 : decode b_M_set 26 = .ok (.iload_n 1, 1) := by decide +kernel
theorem d_M_set_27 : decode b_M_set 27 = .ok (.iaload, 1) := by decide +kernel
theorem d_M_set_28 : decode b_M_set 28 = .ok (.istore_n 3, 1) := by decide +kernel
theorem d_M_set_29 : decode b_M_set 29 = .ok (.aload_n 0, 1) := by decide +kernel
theorem d_M_set_30 : decode b_M_set 30 = .ok (.getfield 7, 3) := by decide +kernel
theorem d_M_set_33 : decode b_M_set 33 = .ok (.iload_n 1, 1) := by decide +kernel
theorem d_M_set_34 : decode b_M_set 34 = .ok (.iload_n 2, 1) := by decide +kernel
theorem d_M_set_35 : decode b_M_set 35 = .ok (.iastore, 1) := by decide +kernel
theorem d_M_set_36 : decode b_M_set 36 = .ok (.iload_n 3, 1) := by decide +kernel
theorem d_M_set_37 : decode b_M_set 37 = .ok (.ireturn, 1) := by decide +kernel
theorem d_M_reverse_0 : decode b_M_reverse 0 = .ok (.iconst 0, 1) := by decide +kernel
theorem d_M_reverse_1 : decode b_M_reverse 1 = .ok (.istore_n 1, 1) := by decide +kernel
theorem d_M_reverse_2 : decode b_M_reverse 2 = .ok (.iload_n 1, 1) := by decide +kernel
theorem d_M_reverse_3 : decode b_M_reverse 3 = .ok (.bipush 48, 2) := by decide +kernel
theorem d_M_reverse_5 : decode b_M_reverse 5 = .ok (.if_icmp .ge 21, 3) := by decide +kernel
theorem d_M_reverse_8 : decode b_M_reverse 8 = .ok (.aload_n 0, 1) := by decide +kernel
theorem d_M_reverse_9 : decode b_M_reverse 9 = .ok (.getfield 13, 3) := by decide +kernel
theorem d_M_reverse_12 : decode b_M_reverse 12 = .ok (.iload_n 1, 1) := by decide +kernel
theorem d_M_reverse_13 : decode b_M_reverse 13 = .ok (.aload_n 0, 1) := by decide +kernel
theorem d_M_reverse_14 : decode b_M_reverse 14 = .ok (.getfield 7, 3) := by decide +kernel
theorem d_M_reverse_17 : decode b_M_reverse 17 = .ok (.iload_n 1, 1) := by decide +kernel
theorem d_M_reverse_18 : decode b_M_reverse 18 = .ok (.iaload, 1) := by decide +kernel
theorem d_M_reverse_19 : decode b_M_reverse 19 = .ok (.iastore, 1) := by decide +kernel
theorem d_M_reverse_20 : decode b_M_reverse 20 = .ok (.iinc 1 1, 3) := by decide +kernel
theorem d_M_reverse_23 : decode b_M_reverse 23 = .ok (.goto (-21), 3) := by decide +kernel
theorem d_M_reverse_26 : decode b_M_reverse 26 = .ok (.iconst 0, 1) := by decide +kernel
theorem d_M_reverse_27 : decode b_M_reverse 27 = .ok (.istore_n 1, 1) := by decide +kernel
theorem d_M_reverse_28 : decode b_M_reverse 28 = .ok (.iload_n 1, 1) := by decide +kernel
theorem d_M_reverse_29 : decode b_M_reverse 29 = .ok (.aload_n 0, 1) := by decide +kernel
theorem d_M_reverse_30 : decode b_M_reverse 30 = .ok (.getfield 25, 3) := by decide +kernel
theorem d_M_reverse_33 : decode b_M_reverse 33 = .ok (.if_icmp .ge 34, 3) := by decide +kernel
theorem d_M_reverse_36 : decode b_M_reverse 36 = .ok (.iload_n 1, 1) := by decide +kernel
theorem d_M_reverse_37 : decode b_M_reverse 37 = .ok (.bipush 48, 2) := by decide +kernel
theorem d_M_reverse_39 : decode b_M_reverse 39 = .ok (.if_icmp .ge 28, 3) := by decide +kernel
theorem d_M_reverse_42 : decode b_M_reverse 42 = .ok (.aload_n 0, 1) := by decide +kernel
theorem d_M_reverse_43 : decode b_M_reverse 43 = .ok (.getfield 7, 3) := by decide +kernel
theorem d_M_reverse_46 : decode b_M_reverse 46 = .ok (.iload_n 1, 1) := by decide +kernel
theorem d_M_reverse_47 : decode b_M_reverse 47 = .ok (.aload_n 0, 1) := by decide +kernel
theorem d_M_reverse_48 : decode b_M_reverse 48 = .ok (.getfield 13, 3) := by decide +kernel
theorem d_M_reverse_51 : decode b_M_reverse 51 = .ok (.aload_n 0, 1) := by decide +kernel
theorem d_M_reverse_52 : decode b_M_reverse 52 = .ok (.getfield 25, 3) := by decide +kernel
theorem d_M_reverse_55 : decode b_M_reverse 55 = .ok (.iconst 1, 1) := by decide +kernel
theorem d_M_reverse_56 : decode b_M_reverse 56 = .ok (.isub, 1) := by decide +kernel
theorem d_M_reverse_57 : decode b_M_reverse 57 = .ok (.iload_n 1, 1) := by decide +kernel
theorem d_M_reverse_58 : decode b_M_reverse 58 = .ok (.isub, 1) := by decide +kernel
theorem d_M_reverse_59 : decode b_M_reverse 59 = .ok (.iaload, 1) := by decide +kernel
theorem d_M_reverse_60 : decode b_M_reverse 60 = .ok (.iastore, 1) := by decide +kernel
theorem d_M_reverse_61 : decode b_M_reverse 61 = .ok (.iinc 1 1, 3) := by decide +kernel
theorem d_M_reverse_64 : decode b_M_reverse 64 = .ok (.goto (-36), 3) := by decide +kernel
theorem d_M_reverse_67 : decode b_M_reverse 67 = .ok (.aload_n 0, 1) := by decide +kernel
theorem d_M_reverse_68 : decode b_M_reverse 68 = .ok (.getfield 25, 3) := by decide +kernel
theorem d_M_reverse_71 : decode b_M_reverse 71 = .ok (.ireturn, 1) := by decide +kernel
theorem d_M_length_0 : decode b_M_length 0 = .ok (.aload_n 0, 1) := by decide +kernel
theorem d_M_length_1 : decode b_M_length 1 = .ok (.getfield 25, 3) := by decide +kernel
theorem d_M_length_4 : decode b_M_length 4 = .ok (.ireturn, 1) := by decide +kernel
theorem d_M_symbol_0 : decode b_M_symbol 0 = .ok (.aload_n 0, 1) := by decide +kernel
theorem d_M_symbol_1 : decode b_M_symbol 1 = .ok (.iload_n 1, 1) := by decide +kernel
theorem d_M_symbol_2 : decode b_M_symbol 2 = .ok (.invokevirtual 29, 3) := by decide +kernel
theorem d_M_symbol_5 : decode b_M_symbol 5 = .ok (.ifCond .eq 7, 3) := by decide +kernel
theorem d_M_symbol_8 : decode b_M_symbol 8 = .ok (.iconst (-1), 1) := by decide +kernel
theorem d_M_symbol_9 : decode b_M_symbol 9 = .ok (.goto 9, 3) := by decide +kernel
theorem d_M_symbol_12 : decode b_M_symbol 12 = .ok (.aload_n 0, 1) := by decide +kernel
theorem d_M_symbol_13 : decode b_M_symbol 13 = .ok (.getfield 7, 3) := by decide +kernel
theorem d_M_symbol_16 : decode b_M_symbol 16 = .ok (.iload_n 1, 1) := by decide +kernel
theorem d_M_symbol_17 : decode b_M_symbol 17 = .ok (.iaload, 1) := by decide +kernel
theorem d_M_symbol_18 : decode b_M_symbol 18 = .ok (.ireturn, 1) := by decide +kernel
theorem d_M_hasPeriod_0 : decode b_M_hasPeriod 0 = .ok (.iload_n 3, 1) := by decide +kernel
theorem d_M_hasPeriod_1 : decode b_M_hasPeriod 1 = .ok (.iload_n 2, 1) := by decide +kernel
theorem d_M_hasPeriod_2 : decode b_M_hasPeriod 2 = .ok (.iload_n 1, 1) := by decide +kernel
theorem d_M_hasPeriod_3 : decode b_M_hasPeriod 3 = .ok (.isub, 1) := by decide +kernel
theorem d_M_hasPeriod_4 : decode b_M_hasPeriod 4 = .ok (.iconst 1, 1) := by decide +kernel
theorem d_M_hasPeriod_5 : decode b_M_hasPeriod 5 = .ok (.iadd, 1) := by decide +kernel
theorem d_M_hasPeriod_6 : decode b_M_hasPeriod 6 = .ok (.if_icmp .le 5, 3) := by decide +kernel
theorem d_M_hasPeriod_9 : decode b_M_hasPeriod 9 = .ok (.iconst 0, 1) := by decide +kernel
theorem d_M_hasPeriod_10 : decode b_M_hasPeriod 10 = .ok (.ireturn, 1) := by decide +kernel
theorem d_M_hasPeriod_11 : decode b_M_hasPeriod 11 = .ok (.iload_n 1, 1) := by decide +kernel
theorem d_M_hasPeriod_12 : decode b_M_hasPeriod 12 = .ok (.istore 4, 2) := by decide +kernel
theorem d_M_hasPeriod_14 : decode b_M_hasPeriod 14 = .ok (.iload 4, 2) := by decide +kernel
theorem d_M_hasPeriod_16 : decode b_M_hasPeriod 16 = .ok (.iload_n 3, 1) := by decide +kernel
theorem d_M_hasPeriod_17 : decode b_M_hasPeriod 17 = .ok (.iadd, 1) := by decide +kernel
theorem d_M_hasPeriod_18 : decode b_M_hasPeriod 18 = .ok (.iload_n 2, 1) := by decide +kernel
theorem d_M_hasPeriod_19 : decode b_M_hasPeriod 19 = .ok (.if_icmp .gt 39, 3) := by decide +kernel
theorem d_M_hasPeriod_22 : decode b_M_hasPeriod 22 = .ok (.iload 4, 2) := by decide +kernel
theorem d_M_hasPeriod_24 : decode b_M_hasPeriod 24 = .ok (.iload_n 3, 1) := by decide +kernel
theorem d_M_hasPeriod_25 : decode b_M_hasPeriod 25 = .ok (.iadd, 1) := by decide +kernel
theorem d_M_hasPeriod_26 : decode b_M_hasPeriod 26 = .ok (.bipush 48, 2) := by decide +kernel
theorem d_M_hasPeriod_28 : decode b_M_hasPeriod 28 = .ok (.if_icmp .ge 30, 3) := by decide +kernel
theorem d_M_hasPeriod_31 : decode b_M_hasPeriod 31 = .ok (.aload_n 0, 1) := by decide +kernel
theorem d_M_hasPeriod_32 : decode b_M_hasPeriod 32 = .ok (.getfield 7, 3) := by decide +kernel
theorem d_M_hasPeriod_35 : decode b_M_hasPeriod 35 = .ok (.iload 4, 2) := by decide +kernel
theorem d_M_hasPeriod_37 : decode b_M_hasPeriod 37 = .ok (.iaload, 1) := by decide +kernel
theorem d_M_hasPeriod_38 : decode b_M_hasPeriod 38 = .ok (.aload_n 0, 1) := by decide +kernel
theorem d_M_hasPeriod_39 : decode b_M_hasPeriod 39 = .ok (.getfield 7, 3) := by decide +kernel
theorem d_M_hasPeriod_42 : decode b_M_hasPeriod 42 = .ok (.iload 4, 2) := by decide +kernel
theorem d_M_hasPeriod_44 : decode b_M_hasPeriod 44 = .ok (.iload_n 3, 1) := by decide +kernel
theorem d_M_hasPeriod_45 : decode b_M_hasPeriod 45 = .ok (.iadd, 1) := by decide +kernel
theorem d_M_hasPeriod_46 : decode b_M_hasPeriod 46 = .ok (.iaload, 1) := by decide +kernel
theorem d_M_hasPeriod_47 : decode b_M_hasPeriod 47 = .ok (.if_icmp .eq 5, 3) := by decide +kernel
theorem d_M_hasPeriod_50 : decode b_M_hasPeriod 50 = .ok (.iconst 0, 1) := by decide +kernel
theorem d_M_hasPeriod_51 : decode b_M_hasPeriod 51 = .ok (.ireturn, 1) := by decide +kernel
theorem d_M_hasPeriod_52 : decode b_M_hasPeriod 52 = .ok (.iinc 4 1, 3) := by decide +kernel
theorem d_M_hasPeriod_55 : decode b_M_hasPeriod 55 = .ok (.goto (-41), 3) := by decide +kernel
theorem d_M_hasPeriod_58 : decode b_M_hasPeriod 58 = .ok (.iconst 1, 1) := by decide +kernel
theorem d_M_hasPeriod_59 : decode b_M_hasPeriod 59 = .ok (.ireturn, 1) := by decide +kernel
theorem d_M_leastPeriod_0 : decode b_M_leastPeriod 0 = .ok (.iconst 1, 1) := by decide +kernel
theorem d_M_leastPeriod_1 : decode b_M_leastPeriod 1 = .ok (.istore_n 3, 1) := by decide +kernel
theorem d_M_leastPeriod_2 : decode b_M_leastPeriod 2 = .ok (.iload_n 3, 1) := by decide +kernel
theorem d_M_leastPeriod_3 : decode b_M_leastPeriod 3 = .ok (.bipush 48, 2) := by decide +kernel
theorem d_M_leastPeriod_5 : decode b_M_leastPeriod 5 = .ok (.if_icmp .gt 21, 3) := by decide +kernel
theorem d_M_leastPeriod_8 : decode b_M_leastPeriod 8 = .ok (.aload_n 0, 1) := by decide +kernel
theorem d_M_leastPeriod_9 : decode b_M_leastPeriod 9 = .ok (.iload_n 1, 1) := by decide +kernel
theorem d_M_leastPeriod_10 : decode b_M_leastPeriod 10 = .ok (.iload_n 2, 1) := by decide +kernel
theorem d_M_leastPeriod_11 : decode b_M_leastPeriod 11 = .ok (.iload_n 3, 1) := by decide +kernel
theorem d_M_leastPeriod_12 : decode b_M_leastPeriod 12 = .ok (.invokevirtual 33, 3) := by decide +kernel
theorem d_M_leastPeriod_15 : decode b_M_leastPeriod 15 = .ok (.ifCond .eq 5, 3) := by decide +kernel
theorem d_M_leastPeriod_18 : decode b_M_leastPeriod 18 = .ok (.iload_n 3, 1) := by decide +kernel
theorem d_M_leastPeriod_19 : decode b_M_leastPeriod 19 = .ok (.ireturn, 1) := by decide +kernel
theorem d_M_leastPeriod_20 : decode b_M_leastPeriod 20 = .ok (.iinc 3 1, 3) := by decide +kernel
theorem d_M_leastPeriod_23 : decode b_M_leastPeriod 23 = .ok (.goto (-21), 3) := by decide +kernel
theorem d_M_leastPeriod_26 : decode b_M_leastPeriod 26 = .ok (.iconst 0, 1) := by decide +kernel
theorem d_M_leastPeriod_27 : decode b_M_leastPeriod 27 = .ok (.ireturn, 1) := by decide +kernel
theorem d_M_runFrom_0 : decode b_M_runFrom 0 = .ok (.iload_n 1, 1) := by decide +kernel
theorem d_M_runFrom_1 : decode b_M_runFrom 1 = .ok (.iconst 2, 1) := by decide +kernel
theorem d_M_runFrom_2 : decode b_M_runFrom 2 = .ok (.iload_n 2, 1) := by decide +kernel
theorem d_M_runFrom_3 : decode b_M_runFrom 3 = .ok (.imul, 1) := by decide +kernel
theorem d_M_runFrom_4 : decode b_M_runFrom 4 = .ok (.iadd, 1) := by decide +kernel
theorem d_M_runFrom_5 : decode b_M_runFrom 5 = .ok (.iconst 1, 1) := by decide +kernel
theorem d_M_runFrom_6 : decode b_M_runFrom 6 = .ok (.isub, 1) := by decide +kernel
theorem d_M_runFrom_7 : decode b_M_runFrom 7 = .ok (.istore_n 3, 1) := by decide +kernel
theorem d_M_runFrom_8 : decode b_M_runFrom 8 = .ok (.iload_n 3, 1) := by decide +kernel
theorem d_M_runFrom_9 : decode b_M_runFrom 9 = .ok (.aload_n 0, 1) := by decide +kernel
theorem d_M_runFrom_10 : decode b_M_runFrom 10 = .ok (.getfield 25, 3) := by decide +kernel
theorem d_M_runFrom_13 : decode b_M_runFrom 13 = .ok (.if_icmp .ge 13, 3) := by decide +kernel
theorem d_M_runFrom_16 : decode b_M_runFrom 16 = .ok (.aload_n 0, 1) := by decide +kernel
theorem d_M_runFrom_17 : decode b_M_runFrom 17 = .ok (.iload_n 1, 1) := by decide +kernel
theorem d_M_runFrom_18 : decode b_M_runFrom 18 = .ok (.iload_n 3, 1) := by decide +kernel
theorem d_M_runFrom_19 : decode b_M_runFrom 19 = .ok (.iload_n 2, 1) := by decide +kernel
theorem d_M_runFrom_20 : decode b_M_runFrom 20 = .ok (.invokevirtual 33, 3) := by decide +kernel
theorem d_M_runFrom_23 : decode b_M_runFrom 23 = .ok (.ifCond .ne 5, 3) := by decide +kernel
theorem d_M_runFrom_26 : decode b_M_runFrom 26 = .ok (.iconst (-1), 1) := by decide +kernel
theorem d_M_runFrom_27 : decode b_M_runFrom 27 = .ok (.ireturn, 1) := by decide +kernel
theorem d_M_runFrom_28 : decode b_M_runFrom 28 = .ok (.iload_n 1, 1) := by decide +kernel
theorem d_M_runFrom_29 : decode b_M_runFrom 29 = .ok (.ifCond .le 26, 3) := by decide +kernel
theorem d_M_runFrom_32 : decode b_M_runFrom 32 = .ok (.aload_n 0, 1) := by decide +kernel
theorem d_M_runFrom_33 : decode b_M_runFrom 33 = .ok (.getfield 7, 3) := by decide +kernel
theorem d_M_runFrom_36 : decode b_M_runFrom 36 = .ok (.iload_n 1, 1) := by decide +kernel
theorem d_M_runFrom_37 : decode b_M_runFrom 37 = .ok (.iconst 1, 1) := by decide +kernel
theorem d_M_runFrom_38 : decode b_M_runFrom 38 = .ok (.isub, 1) := by decide +kernel
theorem d_M_runFrom_39 : decode b_M_runFrom 39 = .ok (.iaload, 1) := by decide +kernel
theorem d_M_runFrom_40 : decode b_M_runFrom 40 = .ok (.aload_n 0, 1) := by decide +kernel
theorem d_M_runFrom_41 : decode b_M_runFrom 41 = .ok (.getfield 7, 3) := by decide +kernel
theorem d_M_runFrom_44 : decode b_M_runFrom 44 = .ok (.iload_n 1, 1) := by decide +kernel
theorem d_M_runFrom_45 : decode b_M_runFrom 45 = .ok (.iconst 1, 1) := by decide +kernel
theorem d_M_runFrom_46 : decode b_M_runFrom 46 = .ok (.isub, 1) := by decide +kernel
theorem d_M_runFrom_47 : decode b_M_runFrom 47 = .ok (.iload_n 2, 1) := by decide +kernel
theorem d_M_runFrom_48 : decode b_M_runFrom 48 = .ok (.iadd, 1) := by decide +kernel
theorem d_M_runFrom_49 : decode b_M_runFrom 49 = .ok (.iaload, 1) := by decide +kernel
theorem d_M_runFrom_50 : decode b_M_runFrom 50 = .ok (.if_icmp .ne 5, 3) := by decide +kernel
theorem d_M_runFrom_53 : decode b_M_runFrom 53 = .ok (.iconst (-1), 1) := by decide +kernel
theorem d_M_runFrom_54 : decode b_M_runFrom 54 = .ok (.ireturn, 1) := by decide +kernel
theorem d_M_runFrom_55 : decode b_M_runFrom 55 = .ok (.iload_n 3, 1) := by decide +kernel
theorem d_M_runFrom_56 : decode b_M_runFrom 56 = .ok (.iconst 1, 1) := by decide +kernel
theorem d_M_runFrom_57 : decode b_M_runFrom 57 = .ok (.iadd, 1) := by decide +kernel
theorem d_M_runFrom_58 : decode b_M_runFrom 58 = .ok (.aload_n 0, 1) := by decide +kernel
theorem d_M_runFrom_59 : decode b_M_runFrom 59 = .ok (.getfield 25, 3) := by decide +kernel
theorem d_M_runFrom_62 : decode b_M_runFrom 62 = .ok (.if_icmp .ge 21, 3) := by decide +kernel
theorem d_M_runFrom_65 : decode b_M_runFrom 65 = .ok (.aload_n 0, 1) := by decide +kernel
theorem d_M_runFrom_66 : decode b_M_runFrom 66 = .ok (.iload_n 1, 1) := by decide +kernel
theorem d_M_runFrom_67 : decode b_M_runFrom 67 = .ok (.iload_n 3, 1) := by decide +kernel
theorem d_M_runFrom_68 : decode b_M_runFrom 68 = .ok (.iconst 1, 1) := by decide +kernel
theorem d_M_runFrom_69 : decode b_M_runFrom 69 = .ok (.iadd, 1) := by decide +kernel
theorem d_M_runFrom_70 : decode b_M_runFrom 70 = .ok (.iload_n 2, 1) := by decide +kernel
theorem d_M_runFrom_71 : decode b_M_runFrom 71 = .ok (.invokevirtual 33, 3) := by decide +kernel
theorem d_M_runFrom_74 : decode b_M_runFrom 74 = .ok (.ifCond .eq 9, 3) := by decide +kernel
theorem d_M_runFrom_77 : decode b_M_runFrom 77 = .ok (.iinc 3 1, 3) := by decide +kernel
theorem d_M_runFrom_80 : decode b_M_runFrom 80 = .ok (.goto (-25), 3) := by decide +kernel
theorem d_M_runFrom_83 : decode b_M_runFrom 83 = .ok (.aload_n 0, 1) := by decide +kernel
theorem d_M_runFrom_84 : decode b_M_runFrom 84 = .ok (.iload_n 1, 1) := by decide +kernel
theorem d_M_runFrom_85 : decode b_M_runFrom 85 = .ok (.iload_n 3, 1) := by decide +kernel
theorem d_M_runFrom_86 : decode b_M_runFrom 86 = .ok (.invokevirtual 37, 3) := by decide +kernel
theorem d_M_runFrom_89 : decode b_M_runFrom 89 = .ok (.iload_n 2, 1) := by decide +kernel
theorem d_M_runFrom_90 : decode b_M_runFrom 90 = .ok (.if_icmp .ne 7, 3) := by decide +kernel
theorem d_M_runFrom_93 : decode b_M_runFrom 93 = .ok (.iload_n 3, 1) := by decide +kernel
theorem d_M_runFrom_94 : decode b_M_runFrom 94 = .ok (.goto 4, 3) := by decide +kernel
theorem d_M_runFrom_97 : decode b_M_runFrom 97 = .ok (.iconst (-1), 1) := by decide +kernel
theorem d_M_runFrom_98 : decode b_M_runFrom 98 = .ok (.ireturn, 1) := by decide +kernel
theorem d_M_list_0 : decode b_M_list 0 = .ok (.aload_n 0, 1) := by decide +kernel
theorem d_M_list_1 : decode b_M_list 1 = .ok (.iconst 0, 1) := by decide +kernel
theorem d_M_list_2 : decode b_M_list 2 = .ok (.putfield 41, 3) := by decide +kernel
theorem d_M_list_5 : decode b_M_list 5 = .ok (.iconst 0, 1) := by decide +kernel
theorem d_M_list_6 : decode b_M_list 6 = .ok (.istore_n 1, 1) := by decide +kernel
theorem d_M_list_7 : decode b_M_list 7 = .ok (.iload_n 1, 1) := by decide +kernel
theorem d_M_list_8 : decode b_M_list 8 = .ok (.aload_n 0, 1) := by decide +kernel
theorem d_M_list_9 : decode b_M_list 9 = .ok (.getfield 25, 3) := by decide +kernel
theorem d_M_list_12 : decode b_M_list 12 = .ok (.if_icmp .ge 83, 3) := by decide +kernel
theorem d_M_list_15 : decode b_M_list 15 = .ok (.iconst 1, 1) := by decide +kernel
theorem d_M_list_16 : decode b_M_list 16 = .ok (.istore_n 2, 1) := by decide +kernel
theorem d_M_list_17 : decode b_M_list 17 = .ok (.iload_n 2, 1) := by decide +kernel
theorem d_M_list_18 : decode b_M_list 18 = .ok (.bipush 24, 2) := by decide +kernel
theorem d_M_list_20 : decode b_M_list 20 = .ok (.if_icmp .gt 69, 3) := by decide +kernel
theorem d_M_list_23 : decode b_M_list 23 = .ok (.aload_n 0, 1) := by decide +kernel
theorem d_M_list_24 : decode b_M_list 24 = .ok (.iload_n 1, 1) := by decide +kernel
theorem d_M_list_25 : decode b_M_list 25 = .ok (.iload_n 2, 1) := by decide +kernel
theorem d_M_list_26 : decode b_M_list 26 = .ok (.invokevirtual 44, 3) := by decide +kernel
theorem d_M_list_29 : decode b_M_list 29 = .ok (.istore_n 3, 1) := by decide +kernel
theorem d_M_list_30 : decode b_M_list 30 = .ok (.iload_n 3, 1) := by decide +kernel
theorem d_M_list_31 : decode b_M_list 31 = .ok (.ifCond .lt 52, 3) := by decide +kernel
theorem d_M_list_34 : decode b_M_list 34 = .ok (.aload_n 0, 1) := by decide +kernel
theorem d_M_list_35 : decode b_M_list 35 = .ok (.getfield 41, 3) := by decide +kernel
theorem d_M_list_38 : decode b_M_list 38 = .ok (.bipush 96, 2) := by decide +kernel
theorem d_M_list_40 : decode b_M_list 40 = .ok (.if_icmp .ge 43, 3) := by decide +kernel
theorem d_M_list_43 : decode b_M_list 43 = .ok (.aload_n 0, 1) := by decide +kernel
theorem d_M_list_44 : decode b_M_list 44 = .ok (.getfield 16, 3) := by decide +kernel
theorem d_M_list_47 : decode b_M_list 47 = .ok (.aload_n 0, 1) := by decide +kernel
theorem d_M_list_48 : decode b_M_list 48 = .ok (.getfield 41, 3) := by decide +kernel
theorem d_M_list_51 : decode b_M_list 51 = .ok (.iload_n 1, 1) := by decide +kernel
theorem d_M_list_52 : decode b_M_list 52 = .ok (.iastore, 1) := by decide +kernel
theorem d_M_list_53 : decode b_M_list 53 = .ok (.aload_n 0, 1) := by decide +kernel
theorem d_M_list_54 : decode b_M_list 54 = .ok (.getfield 19, 3) := by decide +kernel
theorem d_M_list_57 : decode b_M_list 57 = .ok (.aload_n 0, 1) := by decide +kernel
theorem d_M_list_58 : decode b_M_list 58 = .ok (.getfield 41, 3) := by decide +kernel
theorem d_M_list_61 : decode b_M_list 61 = .ok (.iload_n 3, 1) := by decide +kernel
theorem d_M_list_62 : decode b_M_list 62 = .ok (.iastore, 1) := by decide +kernel
theorem d_M_list_63 : decode b_M_list 63 = .ok (.aload_n 0, 1) := by decide +kernel
theorem d_M_list_64 : decode b_M_list 64 = .ok (.getfield 22, 3) := by decide +kernel
theorem d_M_list_67 : decode b_M_list 67 = .ok (.aload_n 0, 1) := by decide +kernel
theorem d_M_list_68 : decode b_M_list 68 = .ok (.getfield 41, 3) := by decide +kernel
theorem d_M_list_71 : decode b_M_list 71 = .ok (.iload_n 2, 1) := by decide +kernel
theorem d_M_list_72 : decode b_M_list 72 = .ok (.iastore, 1) := by decide +kernel
theorem d_M_list_73 : decode b_M_list 73 = .ok (.aload_n 0, 1) := by decide +kernel
theorem d_M_list_74 : decode b_M_list 74 = .ok (.dup, 1) := by decide +kernel
theorem d_M_list_75 : decode b_M_list 75 = .ok (.getfield 41, 3) := by decide +kernel
theorem d_M_list_78 : decode b_M_list 78 = .ok (.iconst 1, 1) := by decide +kernel
theorem d_M_list_79 : decode b_M_list 79 = .ok (.iadd, 1) := by decide +kernel
theorem d_M_list_80 : decode b_M_list 80 = .ok (.putfield 41, 3) := by decide +kernel
theorem d_M_list_83 : decode b_M_list 83 = .ok (.iinc 2 1, 3) := by decide +kernel
theorem d_M_list_86 : decode b_M_list 86 = .ok (.goto (-69), 3) := by decide +kernel
theorem d_M_list_89 : decode b_M_list 89 = .ok (.iinc 1 1, 3) := by decide +kernel
theorem d_M_list_92 : decode b_M_list 92 = .ok (.goto (-85), 3) := by decide +kernel
theorem d_M_list_95 : decode b_M_list 95 = .ok (.return_, 1) := by decide +kernel
theorem d_M_runs_0 : decode b_M_runs 0 = .ok (.aload_n 0, 1) := by decide +kernel
theorem d_M_runs_1 : decode b_M_runs 1 = .ok (.invokevirtual 47, 3) := by decide +kernel
theorem d_M_runs_4 : decode b_M_runs 4 = .ok (.aload_n 0, 1) := by decide +kernel
theorem d_M_runs_5 : decode b_M_runs 5 = .ok (.getfield 41, 3) := by decide +kernel
theorem d_M_runs_8 : decode b_M_runs 8 = .ok (.ireturn, 1) := by decide +kernel
theorem d_M_start_0 : decode b_M_start 0 = .ok (.aload_n 0, 1) := by decide +kernel
theorem d_M_start_1 : decode b_M_start 1 = .ok (.invokevirtual 47, 3) := by decide +kernel
theorem d_M_start_4 : decode b_M_start 4 = .ok (.iload_n 1, 1) := by decide +kernel
theorem d_M_start_5 : decode b_M_start 5 = .ok (.ifCond .lt 11, 3) := by decide +kernel
theorem d_M_start_8 : decode b_M_start 8 = .ok (.iload_n 1, 1) := by decide +kernel
theorem d_M_start_9 : decode b_M_start 9 = .ok (.aload_n 0, 1) := by decide +kernel
theorem d_M_start_10 : decode b_M_start 10 = .ok (.getfield 41, 3) := by decide +kernel
theorem d_M_start_13 : decode b_M_start 13 = .ok (.if_icmp .lt 7, 3) := by decide +kernel
theorem d_M_start_16 : decode b_M_start 16 = .ok (.iconst (-1), 1) := by decide +kernel
theorem d_M_start_17 : decode b_M_start 17 = .ok (.goto 9, 3) := by decide +kernel
theorem d_M_start_20 : decode b_M_start 20 = .ok (.aload_n 0, 1) := by decide +kernel
theorem d_M_start_21 : decode b_M_start 21 = .ok (.getfield 16, 3) := by decide +kernel
theorem d_M_start_24 : decode b_M_start 24 = .ok (.iload_n 1, 1) := by decide +kernel
theorem d_M_start_25 : decode b_M_start 25 = .ok (.iaload, 1) := by decide +kernel
theorem d_M_start_26 : decode b_M_start 26 = .ok (.ireturn, 1) := by decide +kernel
theorem d_M_end_0 : decode b_M_end 0 = .ok (.aload_n 0, 1) := by decide +kernel
theorem d_M_end_1 : decode b_M_end 1 = .ok (.invokevirtual 47, 3) := by decide +kernel
theorem d_M_end_4 : decode b_M_end 4 = .ok (.iload_n 1, 1) := by decide +kernel
theorem d_M_end_5 : decode b_M_end 5 = .ok (.ifCond .lt 11, 3) := by decide +kernel
theorem d_M_end_8 : decode b_M_end 8 = .ok (.iload_n 1, 1) := by decide +kernel
theorem d_M_end_9 : decode b_M_end 9 = .ok (.aload_n 0, 1) := by decide +kernel
theorem d_M_end_10 : decode b_M_end 10 = .ok (.getfield 41, 3) := by decide +kernel
theorem d_M_end_13 : decode b_M_end 13 = .ok (.if_icmp .lt 7, 3) := by decide +kernel
theorem d_M_end_16 : decode b_M_end 16 = .ok (.iconst (-1), 1) := by decide +kernel
theorem d_M_end_17 : decode b_M_end 17 = .ok (.goto 9, 3) := by decide +kernel
theorem d_M_end_20 : decode b_M_end 20 = .ok (.aload_n 0, 1) := by decide +kernel
theorem d_M_end_21 : decode b_M_end 21 = .ok (.getfield 19, 3) := by decide +kernel
theorem d_M_end_24 : decode b_M_end 24 = .ok (.iload_n 1, 1) := by decide +kernel
theorem d_M_end_25 : decode b_M_end 25 = .ok (.iaload, 1) := by decide +kernel
theorem d_M_end_26 : decode b_M_end 26 = .ok (.ireturn, 1) := by decide +kernel
theorem d_M_period_0 : decode b_M_period 0 = .ok (.aload_n 0, 1) := by decide +kernel
theorem d_M_period_1 : decode b_M_period 1 = .ok (.invokevirtual 47, 3) := by decide +kernel
theorem d_M_period_4 : decode b_M_period 4 = .ok (.iload_n 1, 1) := by decide +kernel
theorem d_M_period_5 : decode b_M_period 5 = .ok (.ifCond .lt 11, 3) := by decide +kernel
theorem d_M_period_8 : decode b_M_period 8 = .ok (.iload_n 1, 1) := by decide +kernel
theorem d_M_period_9 : decode b_M_period 9 = .ok (.aload_n 0, 1) := by decide +kernel
theorem d_M_period_10 : decode b_M_period 10 = .ok (.getfield 41, 3) := by decide +kernel
theorem d_M_period_13 : decode b_M_period 13 = .ok (.if_icmp .lt 7, 3) := by decide +kernel
theorem d_M_period_16 : decode b_M_period 16 = .ok (.iconst (-1), 1) := by decide +kernel
theorem d_M_period_17 : decode b_M_period 17 = .ok (.goto 9, 3) := by decide +kernel
theorem d_M_period_20 : decode b_M_period 20 = .ok (.aload_n 0, 1) := by decide +kernel
theorem d_M_period_21 : decode b_M_period 21 = .ok (.getfield 22, 3) := by decide +kernel
theorem d_M_period_24 : decode b_M_period 24 = .ok (.iload_n 1, 1) := by decide +kernel
theorem d_M_period_25 : decode b_M_period 25 = .ok (.iaload, 1) := by decide +kernel
theorem d_M_period_26 : decode b_M_period 26 = .ok (.ireturn, 1) := by decide +kernel
theorem d_M_runsAt_0 : decode b_M_runsAt 0 = .ok (.aload_n 0, 1) := by decide +kernel
theorem d_M_runsAt_1 : decode b_M_runsAt 1 = .ok (.iload_n 1, 1) := by decide +kernel
theorem d_M_runsAt_2 : decode b_M_runsAt 2 = .ok (.invokevirtual 29, 3) := by decide +kernel
theorem d_M_runsAt_5 : decode b_M_runsAt 5 = .ok (.ifCond .eq 5, 3) := by decide +kernel
theorem d_M_runsAt_8 : decode b_M_runsAt 8 = .ok (.iconst (-1), 1) := by decide +kernel
theorem d_M_runsAt_9 : decode b_M_runsAt 9 = .ok (.ireturn, 1) := by decide +kernel
theorem d_M_runsAt_10 : decode b_M_runsAt 10 = .ok (.aload_n 0, 1) := by decide +kernel
theorem d_M_runsAt_11 : decode b_M_runsAt 11 = .ok (.invokevirtual 47, 3) := by decide +kernel
theorem d_M_runsAt_14 : decode b_M_runsAt 14 = .ok (.iconst 0, 1) := by decide +kernel
theorem d_M_runsAt_15 : decode b_M_runsAt 15 = .ok (.istore_n 2, 1) := by decide +kernel
theorem d_M_runsAt_16 : decode b_M_runsAt 16 = .ok (.iconst 0, 1) := by decide +kernel
theorem d_M_runsAt_17 : decode b_M_runsAt 17 = .ok (.istore_n 3, 1) := by decide +kernel
theorem d_M_runsAt_18 : decode b_M_runsAt 18 = .ok (.iload_n 3, 1) := by decide +kernel
theorem d_M_runsAt_19 : decode b_M_runsAt 19 = .ok (.aload_n 0, 1) := by decide +kernel
theorem d_M_runsAt_20 : decode b_M_runsAt 20 = .ok (.getfield 41, 3) := by decide +kernel
theorem d_M_runsAt_23 : decode b_M_runsAt 23 = .ok (.if_icmp .ge 38, 3) := by decide +kernel
theorem d_M_runsAt_26 : decode b_M_runsAt 26 = .ok (.iload_n 3, 1) := by decide +kernel
theorem d_M_runsAt_27 : decode b_M_runsAt 27 = .ok (.bipush 96, 2) := by decide +kernel
theorem d_M_runsAt_29 : decode b_M_runsAt 29 = .ok (.if_icmp .ge 32, 3) := by decide +kernel
theorem d_M_runsAt_32 : decode b_M_runsAt 32 = .ok (.aload_n 0, 1) := by decide +kernel
theorem d_M_runsAt_33 : decode b_M_runsAt 33 = .ok (.getfield 16, 3) := by decide +kernel
theorem d_M_runsAt_36 : decode b_M_runsAt 36 = .ok (.iload_n 3, 1) := by decide +kernel
theorem d_M_runsAt_37 : decode b_M_runsAt 37 = .ok (.iaload, 1) := by decide +kernel
theorem d_M_runsAt_38 : decode b_M_runsAt 38 = .ok (.iload_n 1, 1) := by decide +kernel
theorem d_M_runsAt_39 : decode b_M_runsAt 39 = .ok (.if_icmp .gt 16, 3) := by decide +kernel
theorem d_M_runsAt_42 : decode b_M_runsAt 42 = .ok (.iload_n 1, 1) := by decide +kernel
theorem d_M_runsAt_43 : decode b_M_runsAt 43 = .ok (.aload_n 0, 1) := by decide +kernel
theorem d_M_runsAt_44 : decode b_M_runsAt 44 = .ok (.getfield 19, 3) := by decide +kernel
theorem d_M_runsAt_47 : decode b_M_runsAt 47 = .ok (.iload_n 3, 1) := by decide +kernel
theorem d_M_runsAt_48 : decode b_M_runsAt 48 = .ok (.iaload, 1) := by decide +kernel
theorem d_M_runsAt_49 : decode b_M_runsAt 49 = .ok (.if_icmp .gt 6, 3) := by decide +kernel
theorem d_M_runsAt_52 : decode b_M_runsAt 52 = .ok (.iinc 2 1, 3) := by decide +kernel
theorem d_M_runsAt_55 : decode b_M_runsAt 55 = .ok (.iinc 3 1, 3) := by decide +kernel
theorem d_M_runsAt_58 : decode b_M_runsAt 58 = .ok (.goto (-40), 3) := by decide +kernel
theorem d_M_runsAt_61 : decode b_M_runsAt 61 = .ok (.iload_n 2, 1) := by decide +kernel
theorem d_M_runsAt_62 : decode b_M_runsAt 62 = .ok (.ireturn, 1) := by decide +kernel
theorem d_M_squaresFrom_0 : decode b_M_squaresFrom 0 = .ok (.aload_n 0, 1) := by decide +kernel
theorem d_M_squaresFrom_1 : decode b_M_squaresFrom 1 = .ok (.iload_n 1, 1) := by decide +kernel
theorem d_M_squaresFrom_2 : decode b_M_squaresFrom 2 = .ok (.invokevirtual 29, 3) := by decide +kernel
theorem d_M_squaresFrom_5 : decode b_M_squaresFrom 5 = .ok (.ifCond .eq 5, 3) := by decide +kernel
theorem d_M_squaresFrom_8 : decode b_M_squaresFrom 8 = .ok (.iconst (-1), 1) := by decide +kernel
theorem d_M_squaresFrom_9 : decode b_M_squaresFrom 9 = .ok (.ireturn, 1) := by decide +kernel
theorem d_M_squaresFrom_10 : decode b_M_squaresFrom 10 = .ok (.iconst 0, 1) := by decide +kernel
theorem d_M_squaresFrom_11 : decode b_M_squaresFrom 11 = .ok (.istore_n 2, 1) := by decide +kernel
theorem d_M_squaresFrom_12 : decode b_M_squaresFrom 12 = .ok (.iconst 1, 1) := by decide +kernel
theorem d_M_squaresFrom_13 : decode b_M_squaresFrom 13 = .ok (.istore_n 3, 1) := by decide +kernel
theorem d_M_squaresFrom_14 : decode b_M_squaresFrom 14 = .ok (.iload_n 1, 1) := by decide +kernel
theorem d_M_squaresFrom_15 : decode b_M_squaresFrom 15 = .ok (.iconst 2, 1) := by decide +kernel
theorem d_M_squaresFrom_16 : decode b_M_squaresFrom 16 = .ok (.iload_n 3, 1) := by decide +kernel
theorem d_M_squaresFrom_17 : decode b_M_squaresFrom 17 = .ok (.imul, 1) := by decide +kernel
theorem d_M_squaresFrom_18 : decode b_M_squaresFrom 18 = .ok (.iadd, 1) := by decide +kernel
theorem d_M_squaresFrom_19 : decode b_M_squaresFrom 19 = .ok (.aload_n 0, 1) := by decide +kernel
theorem d_M_squaresFrom_20 : decode b_M_squaresFrom 20 = .ok (.getfield 25, 3) := by decide +kernel
theorem d_M_squaresFrom_23 : decode b_M_squaresFrom 23 = .ok (.if_icmp .gt 28, 3) := by decide +kernel
theorem d_M_squaresFrom_26 : decode b_M_squaresFrom 26 = .ok (.aload_n 0, 1) := by decide +kernel
theorem d_M_squaresFrom_27 : decode b_M_squaresFrom 27 = .ok (.iload_n 1, 1) := by decide +kernel
theorem d_M_squaresFrom_28 : decode b_M_squaresFrom 28 = .ok (.iload_n 1, 1) := by decide +kernel
theorem d_M_squaresFrom_29 : decode b_M_squaresFrom 29 = .ok (.iconst 2, 1) := by decide +kernel
theorem d_M_squaresFrom_30 : decode b_M_squaresFrom 30 = .ok (.iload_n 3, 1) := by decide +kernel
theorem d_M_squaresFrom_31 : decode b_M_squaresFrom 31 = .ok (.imul, 1) := by decide +kernel
theorem d_M_squaresFrom_32 : decode b_M_squaresFrom 32 = .ok (.iadd, 1) := by decide +kernel
theorem d_M_squaresFrom_33 : decode b_M_squaresFrom 33 = .ok (.iconst 1, 1) := by decide +kernel
theorem d_M_squaresFrom_34 : decode b_M_squaresFrom 34 = .ok (.isub, 1) := by decide +kernel
theorem d_M_squaresFrom_35 : decode b_M_squaresFrom 35 = .ok (.invokevirtual 37, 3) := by decide +kernel
theorem d_M_squaresFrom_38 : decode b_M_squaresFrom 38 = .ok (.iload_n 3, 1) := by decide +kernel
theorem d_M_squaresFrom_39 : decode b_M_squaresFrom 39 = .ok (.if_icmp .ne 6, 3) := by decide +kernel
theorem d_M_squaresFrom_42 : decode b_M_squaresFrom 42 = .ok (.iinc 2 1, 3) := by decide +kernel
theorem d_M_squaresFrom_45 : decode b_M_squaresFrom 45 = .ok (.iinc 3 1, 3) := by decide +kernel
theorem d_M_squaresFrom_48 : decode b_M_squaresFrom 48 = .ok (.goto (-34), 3) := by decide +kernel
theorem d_M_squaresFrom_51 : decode b_M_squaresFrom 51 = .ok (.iload_n 2, 1) := by decide +kernel
theorem d_M_squaresFrom_52 : decode b_M_squaresFrom 52 = .ok (.ireturn, 1) := by decide +kernel
theorem d_M_squares_0 : decode b_M_squares 0 = .ok (.iconst 0, 1) := by decide +kernel
theorem d_M_squares_1 : decode b_M_squares 1 = .ok (.istore_n 1, 1) := by decide +kernel
theorem d_M_squares_2 : decode b_M_squares 2 = .ok (.iconst 0, 1) := by decide +kernel
theorem d_M_squares_3 : decode b_M_squares 3 = .ok (.istore_n 2, 1) := by decide +kernel
theorem d_M_squares_4 : decode b_M_squares 4 = .ok (.iload_n 2, 1) := by decide +kernel
theorem d_M_squares_5 : decode b_M_squares 5 = .ok (.aload_n 0, 1) := by decide +kernel
theorem d_M_squares_6 : decode b_M_squares 6 = .ok (.getfield 25, 3) := by decide +kernel
theorem d_M_squares_9 : decode b_M_squares 9 = .ok (.if_icmp .ge 48, 3) := by decide +kernel
theorem d_M_squares_12 : decode b_M_squares 12 = .ok (.iconst 1, 1) := by decide +kernel
theorem d_M_squares_13 : decode b_M_squares 13 = .ok (.istore_n 3, 1) := by decide +kernel
theorem d_M_squares_14 : decode b_M_squares 14 = .ok (.iload_n 2, 1) := by decide +kernel
theorem d_M_squares_15 : decode b_M_squares 15 = .ok (.iconst 2, 1) := by decide +kernel
theorem d_M_squares_16 : decode b_M_squares 16 = .ok (.iload_n 3, 1) := by decide +kernel
theorem d_M_squares_17 : decode b_M_squares 17 = .ok (.imul, 1) := by decide +kernel
theorem d_M_squares_18 : decode b_M_squares 18 = .ok (.iadd, 1) := by decide +kernel
theorem d_M_squares_19 : decode b_M_squares 19 = .ok (.aload_n 0, 1) := by decide +kernel
theorem d_M_squares_20 : decode b_M_squares 20 = .ok (.getfield 25, 3) := by decide +kernel
theorem d_M_squares_23 : decode b_M_squares 23 = .ok (.if_icmp .gt 28, 3) := by decide +kernel
theorem d_M_squares_26 : decode b_M_squares 26 = .ok (.aload_n 0, 1) := by decide +kernel
theorem d_M_squares_27 : decode b_M_squares 27 = .ok (.iload_n 2, 1) := by decide +kernel
theorem d_M_squares_28 : decode b_M_squares 28 = .ok (.iload_n 2, 1) := by decide +kernel
theorem d_M_squares_29 : decode b_M_squares 29 = .ok (.iconst 2, 1) := by decide +kernel
theorem d_M_squares_30 : decode b_M_squares 30 = .ok (.iload_n 3, 1) := by decide +kernel
theorem d_M_squares_31 : decode b_M_squares 31 = .ok (.imul, 1) := by decide +kernel
theorem d_M_squares_32 : decode b_M_squares 32 = .ok (.iadd, 1) := by decide +kernel
theorem d_M_squares_33 : decode b_M_squares 33 = .ok (.iconst 1, 1) := by decide +kernel
theorem d_M_squares_34 : decode b_M_squares 34 = .ok (.isub, 1) := by decide +kernel
theorem d_M_squares_35 : decode b_M_squares 35 = .ok (.iload_n 3, 1) := by decide +kernel
theorem d_M_squares_36 : decode b_M_squares 36 = .ok (.invokevirtual 33, 3) := by decide +kernel
theorem d_M_squares_39 : decode b_M_squares 39 = .ok (.ifCond .eq 6, 3) := by decide +kernel
theorem d_M_squares_42 : decode b_M_squares 42 = .ok (.iinc 1 1, 3) := by decide +kernel
theorem d_M_squares_45 : decode b_M_squares 45 = .ok (.iinc 3 1, 3) := by decide +kernel
theorem d_M_squares_48 : decode b_M_squares 48 = .ok (.goto (-34), 3) := by decide +kernel
theorem d_M_squares_51 : decode b_M_squares 51 = .ok (.iinc 2 1, 3) := by decide +kernel
theorem d_M_squares_54 : decode b_M_squares 54 = .ok (.goto (-50), 3) := by decide +kernel
theorem d_M_squares_57 : decode b_M_squares 57 = .ok (.iload_n 1, 1) := by decide +kernel
theorem d_M_squares_58 : decode b_M_squares 58 = .ok (.ireturn, 1) := by decide +kernel
theorem d_M_periodOf_0 : decode b_M_periodOf 0 = .ok (.aload_n 0, 1) := by decide +kernel
theorem d_M_periodOf_1 : decode b_M_periodOf 1 = .ok (.iload_n 1, 1) := by decide +kernel
theorem d_M_periodOf_2 : decode b_M_periodOf 2 = .ok (.invokevirtual 29, 3) := by decide +kernel
theorem d_M_periodOf_5 : decode b_M_periodOf 5 = .ok (.ifCond .ne 16, 3) := by decide +kernel
theorem d_M_periodOf_8 : decode b_M_periodOf 8 = .ok (.aload_n 0, 1) := by decide +kernel
theorem d_M_periodOf_9 : decode b_M_periodOf 9 = .ok (.iload_n 2, 1) := by decide +kernel
theorem d_M_periodOf_10 : decode b_M_periodOf 10 = .ok (.invokevirtual 29, 3) := by decide +kernel
theorem d_M_periodOf_13 : decode b_M_periodOf 13 = .ok (.ifCond .ne 8, 3) := by decide +kernel
theorem d_M_periodOf_16 : decode b_M_periodOf 16 = .ok (.iload_n 1, 1) := by decide +kernel
theorem d_M_periodOf_17 : decode b_M_periodOf 17 = .ok (.iload_n 2, 1) := by decide +kernel
theorem d_M_periodOf_18 : decode b_M_periodOf 18 = .ok (.if_icmp .le 5, 3) := by decide +kernel
theorem d_M_periodOf_21 : decode b_M_periodOf 21 = .ok (.iconst (-1), 1) := by decide +kernel
theorem d_M_periodOf_22 : decode b_M_periodOf 22 = .ok (.ireturn, 1) := by decide +kernel
theorem d_M_periodOf_23 : decode b_M_periodOf 23 = .ok (.aload_n 0, 1) := by decide +kernel
theorem d_M_periodOf_24 : decode b_M_periodOf 24 = .ok (.iload_n 1, 1) := by decide +kernel
theorem d_M_periodOf_25 : decode b_M_periodOf 25 = .ok (.iload_n 2, 1) := by decide +kernel
theorem d_M_periodOf_26 : decode b_M_periodOf 26 = .ok (.invokevirtual 37, 3) := by decide +kernel
theorem d_M_periodOf_29 : decode b_M_periodOf 29 = .ok (.istore_n 3, 1) := by decide +kernel
theorem d_M_periodOf_30 : decode b_M_periodOf 30 = .ok (.iconst 2, 1) := by decide +kernel
theorem d_M_periodOf_31 : decode b_M_periodOf 31 = .ok (.iload_n 3, 1) := by decide +kernel
theorem d_M_periodOf_32 : decode b_M_periodOf 32 = .ok (.imul, 1) := by decide +kernel
theorem d_M_periodOf_33 : decode b_M_periodOf 33 = .ok (.iload_n 2, 1) := by decide +kernel
theorem d_M_periodOf_34 : decode b_M_periodOf 34 = .ok (.iload_n 1, 1) := by decide +kernel
theorem d_M_periodOf_35 : decode b_M_periodOf 35 = .ok (.isub, 1) := by decide +kernel
theorem d_M_periodOf_36 : decode b_M_periodOf 36 = .ok (.iconst 1, 1) := by decide +kernel
theorem d_M_periodOf_37 : decode b_M_periodOf 37 = .ok (.iadd, 1) := by decide +kernel
theorem d_M_periodOf_38 : decode b_M_periodOf 38 = .ok (.if_icmp .gt 7, 3) := by decide +kernel
theorem d_M_periodOf_41 : decode b_M_periodOf 41 = .ok (.iload_n 3, 1) := by decide +kernel
theorem d_M_periodOf_42 : decode b_M_periodOf 42 = .ok (.goto 4, 3) := by decide +kernel
theorem d_M_periodOf_45 : decode b_M_periodOf 45 = .ok (.iconst 0, 1) := by decide +kernel
theorem d_M_periodOf_46 : decode b_M_periodOf 46 = .ok (.ireturn, 1) := by decide +kernel
theorem d_M_longest_0 : decode b_M_longest 0 = .ok (.aload_n 0, 1) := by decide +kernel
theorem d_M_longest_1 : decode b_M_longest 1 = .ok (.invokevirtual 47, 3) := by decide +kernel
theorem d_M_longest_4 : decode b_M_longest 4 = .ok (.iconst 0, 1) := by decide +kernel
theorem d_M_longest_5 : decode b_M_longest 5 = .ok (.istore_n 1, 1) := by decide +kernel
theorem d_M_longest_6 : decode b_M_longest 6 = .ok (.iconst 0, 1) := by decide +kernel
theorem d_M_longest_7 : decode b_M_longest 7 = .ok (.istore_n 2, 1) := by decide +kernel
theorem d_M_longest_8 : decode b_M_longest 8 = .ok (.iload_n 2, 1) := by decide +kernel
theorem d_M_longest_9 : decode b_M_longest 9 = .ok (.aload_n 0, 1) := by decide +kernel
theorem d_M_longest_10 : decode b_M_longest 10 = .ok (.getfield 41, 3) := by decide +kernel
theorem d_M_longest_13 : decode b_M_longest 13 = .ok (.if_icmp .ge 38, 3) := by decide +kernel
theorem d_M_longest_16 : decode b_M_longest 16 = .ok (.iload_n 2, 1) := by decide +kernel
theorem d_M_longest_17 : decode b_M_longest 17 = .ok (.bipush 96, 2) := by decide +kernel
theorem d_M_longest_19 : decode b_M_longest 19 = .ok (.if_icmp .ge 32, 3) := by decide +kernel
theorem d_M_longest_22 : decode b_M_longest 22 = .ok (.aload_n 0, 1) := by decide +kernel
theorem d_M_longest_23 : decode b_M_longest 23 = .ok (.getfield 19, 3) := by decide +kernel
theorem d_M_longest_26 : decode b_M_longest 26 = .ok (.iload_n 2, 1) := by decide +kernel
theorem d_M_longest_27 : decode b_M_longest 27 = .ok (.iaload, 1) := by decide +kernel
theorem d_M_longest_28 : decode b_M_longest 28 = .ok (.aload_n 0, 1) := by decide +kernel
theorem d_M_longest_29 : decode b_M_longest 29 = .ok (.getfield 16, 3) := by decide +kernel
theorem d_M_longest_32 : decode b_M_longest 32 = .ok (.iload_n 2, 1) := by decide +kernel
theorem d_M_longest_33 : decode b_M_longest 33 = .ok (.iaload, 1) := by decide +kernel
theorem d_M_longest_34 : decode b_M_longest 34 = .ok (.isub, 1) := by decide +kernel
theorem d_M_longest_35 : decode b_M_longest 35 = .ok (.iconst 1, 1) := by decide +kernel
theorem d_M_longest_36 : decode b_M_longest 36 = .ok (.iadd, 1) := by decide +kernel
theorem d_M_longest_37 : decode b_M_longest 37 = .ok (.istore_n 3, 1) := by decide +kernel
theorem d_M_longest_38 : decode b_M_longest 38 = .ok (.iload_n 3, 1) := by decide +kernel
theorem d_M_longest_39 : decode b_M_longest 39 = .ok (.iload_n 1, 1) := by decide +kernel
theorem d_M_longest_40 : decode b_M_longest 40 = .ok (.if_icmp .le 5, 3) := by decide +kernel
theorem d_M_longest_43 : decode b_M_longest 43 = .ok (.iload_n 3, 1) := by decide +kernel
theorem d_M_longest_44 : decode b_M_longest 44 = .ok (.istore_n 1, 1) := by decide +kernel
theorem d_M_longest_45 : decode b_M_longest 45 = .ok (.iinc 2 1, 3) := by decide +kernel
theorem d_M_longest_48 : decode b_M_longest 48 = .ok (.goto (-40), 3) := by decide +kernel
theorem d_M_longest_51 : decode b_M_longest 51 = .ok (.iload_n 1, 1) := by decide +kernel
theorem d_M_longest_52 : decode b_M_longest 52 = .ok (.ireturn, 1) := by decide +kernel
theorem d_M_power_0 : decode b_M_power 0 = .ok (.aload_n 0, 1) := by decide +kernel
theorem d_M_power_1 : decode b_M_power 1 = .ok (.invokevirtual 47, 3) := by decide +kernel
theorem d_M_power_4 : decode b_M_power 4 = .ok (.iconst 0, 1) := by decide +kernel
theorem d_M_power_5 : decode b_M_power 5 = .ok (.istore_n 1, 1) := by decide +kernel
theorem d_M_power_6 : decode b_M_power 6 = .ok (.iconst 0, 1) := by decide +kernel
theorem d_M_power_7 : decode b_M_power 7 = .ok (.istore_n 2, 1) := by decide +kernel
theorem d_M_power_8 : decode b_M_power 8 = .ok (.iload_n 2, 1) := by decide +kernel
theorem d_M_power_9 : decode b_M_power 9 = .ok (.aload_n 0, 1) := by decide +kernel
theorem d_M_power_10 : decode b_M_power 10 = .ok (.getfield 41, 3) := by decide +kernel
theorem d_M_power_13 : decode b_M_power 13 = .ok (.if_icmp .ge 64, 3) := by decide +kernel
theorem d_M_power_16 : decode b_M_power 16 = .ok (.iload_n 2, 1) := by decide +kernel
theorem d_M_power_17 : decode b_M_power 17 = .ok (.bipush 96, 2) := by decide +kernel
theorem d_M_power_19 : decode b_M_power 19 = .ok (.if_icmp .ge 58, 3) := by decide +kernel
theorem d_M_power_22 : decode b_M_power 22 = .ok (.aload_n 0, 1) := by decide +kernel
theorem d_M_power_23 : decode b_M_power 23 = .ok (.getfield 22, 3) := by decide +kernel
theorem d_M_power_26 : decode b_M_power 26 = .ok (.iload_n 2, 1) := by decide +kernel
theorem d_M_power_27 : decode b_M_power 27 = .ok (.iaload, 1) := by decide +kernel
theorem d_M_power_28 : decode b_M_power 28 = .ok (.iconst 1, 1) := by decide +kernel
theorem d_M_power_29 : decode b_M_power 29 = .ok (.if_icmp .ge 7, 3) := by decide +kernel
theorem d_M_power_32 : decode b_M_power 32 = .ok (.iconst 1, 1) := by decide +kernel
theorem d_M_power_33 : decode b_M_power 33 = .ok (.goto 9, 3) := by decide +kernel
theorem d_M_power_36 : decode b_M_power 36 = .ok (.aload_n 0, 1) := by decide +kernel
theorem d_M_power_37 : decode b_M_power 37 = .ok (.getfield 22, 3) := by decide +kernel
theorem d_M_power_40 : decode b_M_power 40 = .ok (.iload_n 2, 1) := by decide +kernel
theorem d_M_power_41 : decode b_M_power 41 = .ok (.iaload, 1) := by decide +kernel
theorem d_M_power_42 : decode b_M_power 42 = .ok (.istore_n 3, 1) := by decide +kernel
theorem d_M_power_43 : decode b_M_power 43 = .ok (.aload_n 0, 1) := by decide +kernel
theorem d_M_power_44 : decode b_M_power 44 = .ok (.getfield 19, 3) := by decide +kernel
theorem d_M_power_47 : decode b_M_power 47 = .ok (.iload_n 2, 1) := by decide +kernel
theorem d_M_power_48 : decode b_M_power 48 = .ok (.iaload, 1) := by decide +kernel
theorem d_M_power_49 : decode b_M_power 49 = .ok (.aload_n 0, 1) := by decide +kernel
theorem d_M_power_50 : decode b_M_power 50 = .ok (.getfield 16, 3) := by decide +kernel
theorem d_M_power_53 : decode b_M_power 53 = .ok (.iload_n 2, 1) := by decide +kernel
theorem d_M_power_54 : decode b_M_power 54 = .ok (.iaload, 1) := by decide +kernel
theorem d_M_power_55 : decode b_M_power 55 = .ok (.isub, 1) := by decide +kernel
theorem d_M_power_56 : decode b_M_power 56 = .ok (.iconst 1, 1) := by decide +kernel
theorem d_M_power_57 : decode b_M_power 57 = .ok (.iadd, 1) := by decide +kernel
theorem d_M_power_58 : decode b_M_power 58 = .ok (.iload_n 3, 1) := by decide +kernel
theorem d_M_power_59 : decode b_M_power 59 = .ok (.idiv, 1) := by decide +kernel
theorem d_M_power_60 : decode b_M_power 60 = .ok (.istore 4, 2) := by decide +kernel
theorem d_M_power_62 : decode b_M_power 62 = .ok (.iload 4, 2) := by decide +kernel
theorem d_M_power_64 : decode b_M_power 64 = .ok (.iload_n 1, 1) := by decide +kernel
theorem d_M_power_65 : decode b_M_power 65 = .ok (.if_icmp .le 6, 3) := by decide +kernel
theorem d_M_power_68 : decode b_M_power 68 = .ok (.iload 4, 2) := by decide +kernel
theorem d_M_power_70 : decode b_M_power 70 = .ok (.istore_n 1, 1) := by decide +kernel
theorem d_M_power_71 : decode b_M_power 71 = .ok (.iinc 2 1, 3) := by decide +kernel
theorem d_M_power_74 : decode b_M_power 74 = .ok (.goto (-66), 3) := by decide +kernel
theorem d_M_power_77 : decode b_M_power 77 = .ok (.iload_n 1, 1) := by decide +kernel
theorem d_M_power_78 : decode b_M_power 78 = .ok (.ireturn, 1) := by decide +kernel
theorem d_M_shared_0 : decode b_M_shared 0 = .ok (.iconst 0, 1) := by decide +kernel
theorem d_M_shared_1 : decode b_M_shared 1 = .ok (.istore_n 3, 1) := by decide +kernel
theorem d_M_shared_2 : decode b_M_shared 2 = .ok (.iload_n 1, 1) := by decide +kernel
theorem d_M_shared_3 : decode b_M_shared 3 = .ok (.iload_n 3, 1) := by decide +kernel
theorem d_M_shared_4 : decode b_M_shared 4 = .ok (.iadd, 1) := by decide +kernel
theorem d_M_shared_5 : decode b_M_shared 5 = .ok (.aload_n 0, 1) := by decide +kernel
theorem d_M_shared_6 : decode b_M_shared 6 = .ok (.getfield 25, 3) := by decide +kernel
theorem d_M_shared_9 : decode b_M_shared 9 = .ok (.if_icmp .ge 38, 3) := by decide +kernel
theorem d_M_shared_12 : decode b_M_shared 12 = .ok (.iload_n 2, 1) := by decide +kernel
theorem d_M_shared_13 : decode b_M_shared 13 = .ok (.iload_n 3, 1) := by decide +kernel
theorem d_M_shared_14 : decode b_M_shared 14 = .ok (.iadd, 1) := by decide +kernel
theorem d_M_shared_15 : decode b_M_shared 15 = .ok (.aload_n 0, 1) := by decide +kernel
theorem d_M_shared_16 : decode b_M_shared 16 = .ok (.getfield 25, 3) := by decide +kernel
theorem d_M_shared_19 : decode b_M_shared 19 = .ok (.if_icmp .ge 28, 3) := by decide +kernel
theorem d_M_shared_22 : decode b_M_shared 22 = .ok (.aload_n 0, 1) := by decide +kernel
theorem d_M_shared_23 : decode b_M_shared 23 = .ok (.getfield 7, 3) := by decide +kernel
theorem d_M_shared_26 : decode b_M_shared 26 = .ok (.iload_n 1, 1) := by decide +kernel
theorem d_M_shared_27 : decode b_M_shared 27 = .ok (.iload_n 3, 1) := by decide +kernel
theorem d_M_shared_28 : decode b_M_shared 28 = .ok (.iadd, 1) := by decide +kernel
theorem d_M_shared_29 : decode b_M_shared 29 = .ok (.iaload, 1) := by decide +kernel
theorem d_M_shared_30 : decode b_M_shared 30 = .ok (.aload_n 0, 1) := by decide +kernel
theorem d_M_shared_31 : decode b_M_shared 31 = .ok (.getfield 7, 3) := by decide +kernel
theorem d_M_shared_34 : decode b_M_shared 34 = .ok (.iload_n 2, 1) := by decide +kernel
theorem d_M_shared_35 : decode b_M_shared 35 = .ok (.iload_n 3, 1) := by decide +kernel
theorem d_M_shared_36 : decode b_M_shared 36 = .ok (.iadd, 1) := by decide +kernel
theorem d_M_shared_37 : decode b_M_shared 37 = .ok (.iaload, 1) := by decide +kernel
theorem d_M_shared_38 : decode b_M_shared 38 = .ok (.if_icmp .ne 9, 3) := by decide +kernel
theorem d_M_shared_41 : decode b_M_shared 41 = .ok (.iinc 3 1, 3) := by decide +kernel
theorem d_M_shared_44 : decode b_M_shared 44 = .ok (.goto (-42), 3) := by decide +kernel
theorem d_M_shared_47 : decode b_M_shared 47 = .ok (.iload_n 3, 1) := by decide +kernel
theorem d_M_shared_48 : decode b_M_shared 48 = .ok (.ireturn, 1) := by decide +kernel
theorem d_M_common_0 : decode b_M_common 0 = .ok (.aload_n 0, 1) := by decide +kernel
theorem d_M_common_1 : decode b_M_common 1 = .ok (.iload_n 1, 1) := by decide +kernel
theorem d_M_common_2 : decode b_M_common 2 = .ok (.invokevirtual 29, 3) := by decide +kernel
theorem d_M_common_5 : decode b_M_common 5 = .ok (.ifCond .ne 11, 3) := by decide +kernel
theorem d_M_common_8 : decode b_M_common 8 = .ok (.aload_n 0, 1) := by decide +kernel
theorem d_M_common_9 : decode b_M_common 9 = .ok (.iload_n 2, 1) := by decide +kernel
theorem d_M_common_10 : decode b_M_common 10 = .ok (.invokevirtual 29, 3) := by decide +kernel
theorem d_M_common_13 : decode b_M_common 13 = .ok (.ifCond .eq 5, 3) := by decide +kernel
theorem d_M_common_16 : decode b_M_common 16 = .ok (.iconst (-1), 1) := by decide +kernel
theorem d_M_common_17 : decode b_M_common 17 = .ok (.ireturn, 1) := by decide +kernel
theorem d_M_common_18 : decode b_M_common 18 = .ok (.aload_n 0, 1) := by decide +kernel
theorem d_M_common_19 : decode b_M_common 19 = .ok (.iload_n 1, 1) := by decide +kernel
theorem d_M_common_20 : decode b_M_common 20 = .ok (.iload_n 2, 1) := by decide +kernel
theorem d_M_common_21 : decode b_M_common 21 = .ok (.invokevirtual 50, 3) := by decide +kernel
theorem d_M_common_24 : decode b_M_common 24 = .ok (.ireturn, 1) := by decide +kernel
theorem d_M_nextSmaller_0 : decode b_M_nextSmaller 0 = .ok (.aload_n 0, 1) := by decide +kernel
theorem d_M_nextSmaller_1 : decode b_M_nextSmaller 1 = .ok (.iload_n 1, 1) := by decide +kernel
theorem d_M_nextSmaller_2 : decode b_M_nextSmaller 2 = .ok (.invokevirtual 29, 3) := by decide +kernel
theorem d_M_nextSmaller_5 : decode b_M_nextSmaller 5 = .ok (.ifCond .eq 5, 3) := by decide +kernel
theorem d_M_nextSmaller_8 : decode b_M_nextSmaller 8 = .ok (.iconst (-1), 1) := by decide +kernel
theorem d_M_nextSmaller_9 : decode b_M_nextSmaller 9 = .ok (.ireturn, 1) := by decide +kernel
theorem d_M_nextSmaller_10 : decode b_M_nextSmaller 10 = .ok (.iload_n 1, 1) := by decide +kernel
theorem d_M_nextSmaller_11 : decode b_M_nextSmaller 11 = .ok (.iconst 1, 1) := by decide +kernel
theorem d_M_nextSmaller_12 : decode b_M_nextSmaller 12 = .ok (.iadd, 1) := by decide +kernel
theorem d_M_nextSmaller_13 : decode b_M_nextSmaller 13 = .ok (.istore_n 2, 1) := by decide +kernel
theorem d_M_nextSmaller_14 : decode b_M_nextSmaller 14 = .ok (.iload_n 2, 1) := by decide +kernel
theorem d_M_nextSmaller_15 : decode b_M_nextSmaller 15 = .ok (.aload_n 0, 1) := by decide +kernel
theorem d_M_nextSmaller_16 : decode b_M_nextSmaller 16 = .ok (.getfield 25, 3) := by decide +kernel
theorem d_M_nextSmaller_19 : decode b_M_nextSmaller 19 = .ok (.if_icmp .ge 49, 3) := by decide +kernel
theorem d_M_nextSmaller_22 : decode b_M_nextSmaller 22 = .ok (.aload_n 0, 1) := by decide +kernel
theorem d_M_nextSmaller_23 : decode b_M_nextSmaller 23 = .ok (.iload_n 1, 1) := by decide +kernel
theorem d_M_nextSmaller_24 : decode b_M_nextSmaller 24 = .ok (.iload_n 2, 1) := by decide +kernel
theorem d_M_nextSmaller_25 : decode b_M_nextSmaller 25 = .ok (.invokevirtual 50, 3) := by decide +kernel
theorem d_M_nextSmaller_28 : decode b_M_nextSmaller 28 = .ok (.istore_n 3, 1) := by decide +kernel
theorem d_M_nextSmaller_29 : decode b_M_nextSmaller 29 = .ok (.iload_n 2, 1) := by decide +kernel
theorem d_M_nextSmaller_30 : decode b_M_nextSmaller 30 = .ok (.iload_n 3, 1) := by decide +kernel
theorem d_M_nextSmaller_31 : decode b_M_nextSmaller 31 = .ok (.iadd, 1) := by decide +kernel
theorem d_M_nextSmaller_32 : decode b_M_nextSmaller 32 = .ok (.aload_n 0, 1) := by decide +kernel
theorem d_M_nextSmaller_33 : decode b_M_nextSmaller 33 = .ok (.getfield 25, 3) := by decide +kernel
theorem d_M_nextSmaller_36 : decode b_M_nextSmaller 36 = .ok (.if_icmp .ne 5, 3) := by decide +kernel
theorem d_M_nextSmaller_39 : decode b_M_nextSmaller 39 = .ok (.iload_n 2, 1) := by decide +kernel
theorem d_M_nextSmaller_40 : decode b_M_nextSmaller 40 = .ok (.ireturn, 1) := by decide +kernel
theorem d_M_nextSmaller_41 : decode b_M_nextSmaller 41 = .ok (.aload_n 0, 1) := by decide +kernel
theorem d_M_nextSmaller_42 : decode b_M_nextSmaller 42 = .ok (.getfield 7, 3) := by decide +kernel
theorem d_M_nextSmaller_45 : decode b_M_nextSmaller 45 = .ok (.iload_n 2, 1) := by decide +kernel
theorem d_M_nextSmaller_46 : decode b_M_nextSmaller 46 = .ok (.iload_n 3, 1) := by decide +kernel
theorem d_M_nextSmaller_47 : decode b_M_nextSmaller 47 = .ok (.iadd, 1) := by decide +kernel
theorem d_M_nextSmaller_48 : decode b_M_nextSmaller 48 = .ok (.iaload, 1) := by decide +kernel
theorem d_M_nextSmaller_49 : decode b_M_nextSmaller 49 = .ok (.aload_n 0, 1) := by decide +kernel
theorem d_M_nextSmaller_50 : decode b_M_nextSmaller 50 = .ok (.getfield 7, 3) := by decide +kernel
theorem d_M_nextSmaller_53 : decode b_M_nextSmaller 53 = .ok (.iload_n 1, 1) := by decide +kernel
theorem d_M_nextSmaller_54 : decode b_M_nextSmaller 54 = .ok (.iload_n 3, 1) := by decide +kernel
theorem d_M_nextSmaller_55 : decode b_M_nextSmaller 55 = .ok (.iadd, 1) := by decide +kernel
theorem d_M_nextSmaller_56 : decode b_M_nextSmaller 56 = .ok (.iaload, 1) := by decide +kernel
theorem d_M_nextSmaller_57 : decode b_M_nextSmaller 57 = .ok (.if_icmp .ge 5, 3) := by decide +kernel
theorem d_M_nextSmaller_60 : decode b_M_nextSmaller 60 = .ok (.iload_n 2, 1) := by decide +kernel
theorem d_M_nextSmaller_61 : decode b_M_nextSmaller 61 = .ok (.ireturn, 1) := by decide +kernel
theorem d_M_nextSmaller_62 : decode b_M_nextSmaller 62 = .ok (.iinc 2 1, 3) := by decide +kernel
theorem d_M_nextSmaller_65 : decode b_M_nextSmaller 65 = .ok (.goto (-51), 3) := by decide +kernel
theorem d_M_nextSmaller_68 : decode b_M_nextSmaller 68 = .ok (.aload_n 0, 1) := by decide +kernel
theorem d_M_nextSmaller_69 : decode b_M_nextSmaller 69 = .ok (.getfield 25, 3) := by decide +kernel
theorem d_M_nextSmaller_72 : decode b_M_nextSmaller 72 = .ok (.ireturn, 1) := by decide +kernel
end
section
theorem d_L_law_0 : decode code 0 = .ok (.new 7, 3) := by decide +kernel
theorem d_L_law_3 : decode code 3 = .ok (.dup, 1) := by decide +kernel
theorem d_L_law_4 : decode code 4 = .ok (.invokespecial 9, 3) := by decide +kernel
theorem d_L_law_7 : decode code 7 = .ok (.astore_n 1, 1) := by decide +kernel
theorem d_L_law_8 : decode code 8 = .ok (.new 10, 3) := by decide +kernel
theorem d_L_law_11 : decode code 11 = .ok (.dup, 1) := by decide +kernel
theorem d_L_law_12 : decode code 12 = .ok (.invokespecial 12, 3) := by decide +kernel
theorem d_L_law_15 : decode code 15 = .ok (.astore_n 2, 1) := by decide +kernel
theorem d_L_law_16 : decode code 16 = .ok (.iconst 0, 1) := by decide +kernel
theorem d_L_law_17 : decode code 17 = .ok (.istore_n 3, 1) := by decide +kernel
theorem d_L_law_18 : decode code 18 = .ok (.iload_n 3, 1) := by decide +kernel
theorem d_L_law_19 : decode code 19 = .ok (.aload_n 0, 1) := by decide +kernel
theorem d_L_law_20 : decode code 20 = .ok (.arraylength, 1) := by decide +kernel
theorem d_L_law_21 : decode code 21 = .ok (.iconst 3, 1) := by decide +kernel
theorem d_L_law_22 : decode code 22 = .ok (.isub, 1) := by decide +kernel
theorem d_L_law_23 : decode code 23 = .ok (.if_icmp .gt 524, 3) := by decide +kernel
theorem d_L_law_26 : decode code 26 = .ok (.aload_n 0, 1) := by decide +kernel
theorem d_L_law_27 : decode code 27 = .ok (.iload_n 3, 1) := by decide +kernel
theorem d_L_law_28 : decode code 28 = .ok (.iaload, 1) := by decide +kernel
theorem d_L_law_29 : decode code 29 = .ok (.bipush 31, 2) := by decide +kernel
theorem d_L_law_31 : decode code 31 = .ok (.iand, 1) := by decide +kernel
theorem d_L_law_32 : decode code 32 = .ok (.tableswitch 509 0 18 #[92, 115, 138, 171, 204, 217, 230, 253, 266, 289, 312, 335, 358, 381, 394, 427, 440, 453, 486], 92) := by decide +kernel
theorem d_L_law_124 : decode code 124 = .ok (.aload_n 1, 1) := by decide +kernel
theorem d_L_law_125 : decode code 125 = .ok (.aload_n 0, 1) := by decide +kernel
theorem d_L_law_126 : decode code 126 = .ok (.iload_n 3, 1) := by decide +kernel
theorem d_L_law_127 : decode code 127 = .ok (.iconst 1, 1) := by decide +kernel
theorem d_L_law_128 : decode code 128 = .ok (.iadd, 1) := by decide +kernel
theorem d_L_law_129 : decode code 129 = .ok (.iaload, 1) := by decide +kernel
theorem d_L_law_130 : decode code 130 = .ok (.invokevirtual 13, 3) := by decide +kernel
theorem d_L_law_133 : decode code 133 = .ok (.aload_n 2, 1) := by decide +kernel
theorem d_L_law_134 : decode code 134 = .ok (.aload_n 0, 1) := by decide +kernel
theorem d_L_law_135 : decode code 135 = .ok (.iload_n 3, 1) := by decide +kernel
theorem d_L_law_136 : decode code 136 = .ok (.iconst 1, 1) := by decide +kernel
theorem d_L_law_137 : decode code 137 = .ok (.iadd, 1) := by decide +kernel
theorem d_L_law_138 : decode code 138 = .ok (.iaload, 1) := by decide +kernel
theorem d_L_law_139 : decode code 139 = .ok (.invokevirtual 17, 3) := by decide +kernel
theorem d_L_law_142 : decode code 142 = .ok (.if_icmp .eq 399, 3) := by decide +kernel
theorem d_L_law_145 : decode code 145 = .ok (.iconst 0, 1) := by decide +kernel
theorem d_L_law_146 : decode code 146 = .ok (.ireturn, 1) := by decide +kernel
theorem d_L_law_147 : decode code 147 = .ok (.aload_n 1, 1) := by decide +kernel
theorem d_L_law_148 : decode code 148 = .ok (.aload_n 0, 1) := by decide +kernel
theorem d_L_law_149 : decode code 149 = .ok (.iload_n 3, 1) := by decide +kernel
theorem d_L_law_150 : decode code 150 = .ok (.iconst 1, 1) := by decide +kernel
theorem d_L_law_151 : decode code 151 = .ok (.iadd, 1) := by decide +kernel
theorem d_L_law_152 : decode code 152 = .ok (.iaload, 1) := by decide +kernel
theorem d_L_law_153 : decode code 153 = .ok (.invokevirtual 18, 3) := by decide +kernel
theorem d_L_law_156 : decode code 156 = .ok (.aload_n 2, 1) := by decide +kernel
theorem d_L_law_157 : decode code 157 = .ok (.aload_n 0, 1) := by decide +kernel
theorem d_L_law_158 : decode code 158 = .ok (.iload_n 3, 1) := by decide +kernel
theorem d_L_law_159 : decode code 159 = .ok (.iconst 1, 1) := by decide +kernel
theorem d_L_law_160 : decode code 160 = .ok (.iadd, 1) := by decide +kernel
theorem d_L_law_161 : decode code 161 = .ok (.iaload, 1) := by decide +kernel
theorem d_L_law_162 : decode code 162 = .ok (.invokevirtual 21, 3) := by decide +kernel
theorem d_L_law_165 : decode code 165 = .ok (.if_icmp .eq 376, 3) := by decide +kernel
theorem d_L_law_168 : decode code 168 = .ok (.iconst 0, 1) := by decide +kernel
theorem d_L_law_169 : decode code 169 = .ok (.ireturn, 1) := by decide +kernel
theorem d_L_law_170 : decode code 170 = .ok (.aload_n 1, 1) := by decide +kernel
theorem d_L_law_171 : decode code 171 = .ok (.aload_n 0, 1) := by decide +kernel
theorem d_L_law_172 : decode code 172 = .ok (.iload_n 3, 1) := by decide +kernel
theorem d_L_law_173 : decode code 173 = .ok (.iconst 1, 1) := by decide +kernel
theorem d_L_law_174 : decode code 174 = .ok (.iadd, 1) := by decide +kernel
theorem d_L_law_175 : decode code 175 = .ok (.iaload, 1) := by decide +kernel
theorem d_L_law_176 : decode code 176 = .ok (.aload_n 0, 1) := by decide +kernel
theorem d_L_law_177 : decode code 177 = .ok (.iload_n 3, 1) := by decide +kernel
theorem d_L_law_178 : decode code 178 = .ok (.iconst 2, 1) := by decide +kernel
theorem d_L_law_179 : decode code 179 = .ok (.iadd, 1) := by decide +kernel
theorem d_L_law_180 : decode code 180 = .ok (.iaload, 1) := by decide +kernel
theorem d_L_law_181 : decode code 181 = .ok (.invokevirtual 22, 3) := by decide +kernel
theorem d_L_law_184 : decode code 184 = .ok (.aload_n 2, 1) := by decide +kernel
theorem d_L_law_185 : decode code 185 = .ok (.aload_n 0, 1) := by decide +kernel
theorem d_L_law_186 : decode code 186 = .ok (.iload_n 3, 1) := by decide +kernel
theorem d_L_law_187 : decode code 187 = .ok (.iconst 1, 1) := by decide +kernel
theorem d_L_law_188 : decode code 188 = .ok (.iadd, 1) := by decide +kernel
theorem d_L_law_189 : decode code 189 = .ok (.iaload, 1) := by decide +kernel
theorem d_L_law_190 : decode code 190 = .ok (.aload_n 0, 1) := by decide +kernel
theorem d_L_law_191 : decode code 191 = .ok (.iload_n 3, 1) := by decide +kernel
theorem d_L_law_192 : decode code 192 = .ok (.iconst 2, 1) := by decide +kernel
theorem d_L_law_193 : decode code 193 = .ok (.iadd, 1) := by decide +kernel
theorem d_L_law_194 : decode code 194 = .ok (.iaload, 1) := by decide +kernel
theorem d_L_law_195 : decode code 195 = .ok (.invokevirtual 26, 3) := by decide +kernel
theorem d_L_law_198 : decode code 198 = .ok (.if_icmp .eq 343, 3) := by decide +kernel
theorem d_L_law_201 : decode code 201 = .ok (.iconst 0, 1) := by decide +kernel
theorem d_L_law_202 : decode code 202 = .ok (.ireturn, 1) := by decide +kernel
theorem d_L_law_203 : decode code 203 = .ok (.aload_n 1, 1) := by decide +kernel
theorem d_L_law_204 : decode code 204 = .ok (.aload_n 0, 1) := by decide +kernel
theorem d_L_law_205 : decode code 205 = .ok (.iload_n 3, 1) := by decide +kernel
theorem d_L_law_206 : decode code 206 = .ok (.iconst 1, 1) := by decide +kernel
theorem d_L_law_207 : decode code 207 = .ok (.iadd, 1) := by decide +kernel
theorem d_L_law_208 : decode code 208 = .ok (.iaload, 1) := by decide +kernel
theorem d_L_law_209 : decode code 209 = .ok (.aload_n 0, 1) := by decide +kernel
theorem d_L_law_210 : decode code 210 = .ok (.iload_n 3, 1) := by decide +kernel
theorem d_L_law_211 : decode code 211 = .ok (.iconst 2, 1) := by decide +kernel
theorem d_L_law_212 : decode code 212 = .ok (.iadd, 1) := by decide +kernel
theorem d_L_law_213 : decode code 213 = .ok (.iaload, 1) := by decide +kernel
theorem d_L_law_214 : decode code 214 = .ok (.invokevirtual 27, 3) := by decide +kernel
theorem d_L_law_217 : decode code 217 = .ok (.aload_n 2, 1) := by decide +kernel
theorem d_L_law_218 : decode code 218 = .ok (.aload_n 0, 1) := by decide +kernel
theorem d_L_law_219 : decode code 219 = .ok (.iload_n 3, 1) := by decide +kernel
theorem d_L_law_220 : decode code 220 = .ok (.iconst 1, 1) := by decide +kernel
theorem d_L_law_221 : decode code 221 = .ok (.iadd, 1) := by decide +kernel
theorem d_L_law_222 : decode code 222 = .ok (.iaload, 1) := by decide +kernel
theorem d_L_law_223 : decode code 223 = .ok (.aload_n 0, 1) := by decide +kernel
theorem d_L_law_224 : decode code 224 = .ok (.iload_n 3, 1) := by decide +kernel
theorem d_L_law_225 : decode code 225 = .ok (.iconst 2, 1) := by decide +kernel
theorem d_L_law_226 : decode code 226 = .ok (.iadd, 1) := by decide +kernel
theorem d_L_law_227 : decode code 227 = .ok (.iaload, 1) := by decide +kernel
theorem d_L_law_228 : decode code 228 = .ok (.invokevirtual 30, 3) := by decide +kernel
theorem d_L_law_231 : decode code 231 = .ok (.if_icmp .eq 310, 3) := by decide +kernel
theorem d_L_law_234 : decode code 234 = .ok (.iconst 0, 1) := by decide +kernel
theorem d_L_law_235 : decode code 235 = .ok (.ireturn, 1) := by decide +kernel
theorem d_L_law_236 : decode code 236 = .ok (.aload_n 1, 1) := by decide +kernel
theorem d_L_law_237 : decode code 237 = .ok (.invokevirtual 31, 3) := by decide +kernel
theorem d_L_law_240 : decode code 240 = .ok (.aload_n 2, 1) := by decide +kernel
theorem d_L_law_241 : decode code 241 = .ok (.invokevirtual 35, 3) := by decide +kernel
theorem d_L_law_244 : decode code 244 = .ok (.if_icmp .eq 297, 3) := by decide +kernel
theorem d_L_law_247 : decode code 247 = .ok (.iconst 0, 1) := by decide +kernel
theorem d_L_law_248 : decode code 248 = .ok (.ireturn, 1) := by decide +kernel
theorem d_L_law_249 : decode code 249 = .ok (.aload_n 1, 1) := by decide +kernel
theorem d_L_law_250 : decode code 250 = .ok (.invokevirtual 36, 3) := by decide +kernel
theorem d_L_law_253 : decode code 253 = .ok (.aload_n 2, 1) := by decide +kernel
theorem d_L_law_254 : decode code 254 = .ok (.invokevirtual 39, 3) := by decide +kernel
theorem d_L_law_257 : decode code 257 = .ok (.if_icmp .eq 284, 3) := by decide +kernel
theorem d_L_law_260 : decode code 260 = .ok (.iconst 0, 1) := by decide +kernel
theorem d_L_law_261 : decode code 261 = .ok (.ireturn, 1) := by decide +kernel
theorem d_L_law_262 : decode code 262 = .ok (.aload_n 1, 1) := by decide +kernel
theorem d_L_law_263 : decode code 263 = .ok (.aload_n 0, 1) := by decide +kernel
theorem d_L_law_264 : decode code 264 = .ok (.iload_n 3, 1) := by decide +kernel
theorem d_L_law_265 : decode code 265 = .ok (.iconst 1, 1) := by decide +kernel
theorem d_L_law_266 : decode code 266 = .ok (.iadd, 1) := by decide +kernel
theorem d_L_law_267 : decode code 267 = .ok (.iaload, 1) := by decide +kernel
theorem d_L_law_268 : decode code 268 = .ok (.invokevirtual 40, 3) := by decide +kernel
theorem d_L_law_271 : decode code 271 = .ok (.aload_n 2, 1) := by decide +kernel
theorem d_L_law_272 : decode code 272 = .ok (.aload_n 0, 1) := by decide +kernel
theorem d_L_law_273 : decode code 273 = .ok (.iload_n 3, 1) := by decide +kernel
theorem d_L_law_274 : decode code 274 = .ok (.iconst 1, 1) := by decide +kernel
theorem d_L_law_275 : decode code 275 = .ok (.iadd, 1) := by decide +kernel
theorem d_L_law_276 : decode code 276 = .ok (.iaload, 1) := by decide +kernel
theorem d_L_law_277 : decode code 277 = .ok (.invokevirtual 43, 3) := by decide +kernel
theorem d_L_law_280 : decode code 280 = .ok (.if_icmp .eq 261, 3) := by decide +kernel
theorem d_L_law_283 : decode code 283 = .ok (.iconst 0, 1) := by decide +kernel
theorem d_L_law_284 : decode code 284 = .ok (.ireturn, 1) := by decide +kernel
theorem d_L_law_285 : decode code 285 = .ok (.aload_n 1, 1) := by decide +kernel
theorem d_L_law_286 : decode code 286 = .ok (.invokevirtual 44, 3) := by decide +kernel
theorem d_L_law_289 : decode code 289 = .ok (.aload_n 2, 1) := by decide +kernel
theorem d_L_law_290 : decode code 290 = .ok (.invokevirtual 47, 3) := by decide +kernel
theorem d_L_law_293 : decode code 293 = .ok (.if_icmp .eq 248, 3) := by decide +kernel
theorem d_L_law_296 : decode code 296 = .ok (.iconst 0, 1) := by decide +kernel
theorem d_L_law_297 : decode code 297 = .ok (.ireturn, 1) := by decide +kernel
theorem d_L_law_298 : decode code 298 = .ok (.aload_n 1, 1) := by decide +kernel
theorem d_L_law_299 : decode code 299 = .ok (.aload_n 0, 1) := by decide +kernel
theorem d_L_law_300 : decode code 300 = .ok (.iload_n 3, 1) := by decide +kernel
theorem d_L_law_301 : decode code 301 = .ok (.iconst 1, 1) := by decide +kernel
theorem d_L_law_302 : decode code 302 = .ok (.iadd, 1) := by decide +kernel
theorem d_L_law_303 : decode code 303 = .ok (.iaload, 1) := by decide +kernel
theorem d_L_law_304 : decode code 304 = .ok (.invokevirtual 48, 3) := by decide +kernel
theorem d_L_law_307 : decode code 307 = .ok (.aload_n 2, 1) := by decide +kernel
theorem d_L_law_308 : decode code 308 = .ok (.aload_n 0, 1) := by decide +kernel
theorem d_L_law_309 : decode code 309 = .ok (.iload_n 3, 1) := by decide +kernel
theorem d_L_law_310 : decode code 310 = .ok (.iconst 1, 1) := by decide +kernel
theorem d_L_law_311 : decode code 311 = .ok (.iadd, 1) := by decide +kernel
theorem d_L_law_312 : decode code 312 = .ok (.iaload, 1) := by decide +kernel
theorem d_L_law_313 : decode code 313 = .ok (.invokevirtual 51, 3) := by decide +kernel
theorem d_L_law_316 : decode code 316 = .ok (.if_icmp .eq 225, 3) := by decide +kernel
theorem d_L_law_319 : decode code 319 = .ok (.iconst 0, 1) := by decide +kernel
theorem d_L_law_320 : decode code 320 = .ok (.ireturn, 1) := by decide +kernel
theorem d_L_law_321 : decode code 321 = .ok (.aload_n 1, 1) := by decide +kernel
theorem d_L_law_322 : decode code 322 = .ok (.aload_n 0, 1) := by decide +kernel
theorem d_L_law_323 : decode code 323 = .ok (.iload_n 3, 1) := by decide +kernel
theorem d_L_law_324 : decode code 324 = .ok (.iconst 1, 1) := by decide +kernel
theorem d_L_law_325 : decode code 325 = .ok (.iadd, 1) := by decide +kernel
theorem d_L_law_326 : decode code 326 = .ok (.iaload, 1) := by decide +kernel
theorem d_L_law_327 : decode code 327 = .ok (.invokevirtual 52, 3) := by decide +kernel
theorem d_L_law_330 : decode code 330 = .ok (.aload_n 2, 1) := by decide +kernel
theorem d_L_law_331 : decode code 331 = .ok (.aload_n 0, 1) := by decide +kernel
theorem d_L_law_332 : decode code 332 = .ok (.iload_n 3, 1) := by decide +kernel
theorem d_L_law_333 : decode code 333 = .ok (.iconst 1, 1) := by decide +kernel
theorem d_L_law_334 : decode code 334 = .ok (.iadd, 1) := by decide +kernel
theorem d_L_law_335 : decode code 335 = .ok (.iaload, 1) := by decide +kernel
theorem d_L_law_336 : decode code 336 = .ok (.invokevirtual 55, 3) := by decide +kernel
theorem d_L_law_339 : decode code 339 = .ok (.if_icmp .eq 202, 3) := by decide +kernel
theorem d_L_law_342 : decode code 342 = .ok (.iconst 0, 1) := by decide +kernel
theorem d_L_law_343 : decode code 343 = .ok (.ireturn, 1) := by decide +kernel
theorem d_L_law_344 : decode code 344 = .ok (.aload_n 1, 1) := by decide +kernel
theorem d_L_law_345 : decode code 345 = .ok (.aload_n 0, 1) := by decide +kernel
theorem d_L_law_346 : decode code 346 = .ok (.iload_n 3, 1) := by decide +kernel
theorem d_L_law_347 : decode code 347 = .ok (.iconst 1, 1) := by decide +kernel
theorem d_L_law_348 : decode code 348 = .ok (.iadd, 1) := by decide +kernel
theorem d_L_law_349 : decode code 349 = .ok (.iaload, 1) := by decide +kernel
theorem d_L_law_350 : decode code 350 = .ok (.invokevirtual 56, 3) := by decide +kernel
theorem d_L_law_353 : decode code 353 = .ok (.aload_n 2, 1) := by decide +kernel
theorem d_L_law_354 : decode code 354 = .ok (.aload_n 0, 1) := by decide +kernel
theorem d_L_law_355 : decode code 355 = .ok (.iload_n 3, 1) := by decide +kernel
theorem d_L_law_356 : decode code 356 = .ok (.iconst 1, 1) := by decide +kernel
theorem d_L_law_357 : decode code 357 = .ok (.iadd, 1) := by decide +kernel
theorem d_L_law_358 : decode code 358 = .ok (.iaload, 1) := by decide +kernel
theorem d_L_law_359 : decode code 359 = .ok (.invokevirtual 59, 3) := by decide +kernel
theorem d_L_law_362 : decode code 362 = .ok (.if_icmp .eq 179, 3) := by decide +kernel
theorem d_L_law_365 : decode code 365 = .ok (.iconst 0, 1) := by decide +kernel
theorem d_L_law_366 : decode code 366 = .ok (.ireturn, 1) := by decide +kernel
theorem d_L_law_367 : decode code 367 = .ok (.aload_n 1, 1) := by decide +kernel
theorem d_L_law_368 : decode code 368 = .ok (.aload_n 0, 1) := by decide +kernel
theorem d_L_law_369 : decode code 369 = .ok (.iload_n 3, 1) := by decide +kernel
theorem d_L_law_370 : decode code 370 = .ok (.iconst 1, 1) := by decide +kernel
theorem d_L_law_371 : decode code 371 = .ok (.iadd, 1) := by decide +kernel
theorem d_L_law_372 : decode code 372 = .ok (.iaload, 1) := by decide +kernel
theorem d_L_law_373 : decode code 373 = .ok (.invokevirtual 60, 3) := by decide +kernel
theorem d_L_law_376 : decode code 376 = .ok (.aload_n 2, 1) := by decide +kernel
theorem d_L_law_377 : decode code 377 = .ok (.aload_n 0, 1) := by decide +kernel
theorem d_L_law_378 : decode code 378 = .ok (.iload_n 3, 1) := by decide +kernel
theorem d_L_law_379 : decode code 379 = .ok (.iconst 1, 1) := by decide +kernel
theorem d_L_law_380 : decode code 380 = .ok (.iadd, 1) := by decide +kernel
theorem d_L_law_381 : decode code 381 = .ok (.iaload, 1) := by decide +kernel
theorem d_L_law_382 : decode code 382 = .ok (.invokevirtual 63, 3) := by decide +kernel
theorem d_L_law_385 : decode code 385 = .ok (.if_icmp .eq 156, 3) := by decide +kernel
theorem d_L_law_388 : decode code 388 = .ok (.iconst 0, 1) := by decide +kernel
theorem d_L_law_389 : decode code 389 = .ok (.ireturn, 1) := by decide +kernel
theorem d_L_law_390 : decode code 390 = .ok (.aload_n 1, 1) := by decide +kernel
theorem d_L_law_391 : decode code 391 = .ok (.aload_n 0, 1) := by decide +kernel
theorem d_L_law_392 : decode code 392 = .ok (.iload_n 3, 1) := by decide +kernel
theorem d_L_law_393 : decode code 393 = .ok (.iconst 1, 1) := by decide +kernel
theorem d_L_law_394 : decode code 394 = .ok (.iadd, 1) := by decide +kernel
theorem d_L_law_395 : decode code 395 = .ok (.iaload, 1) := by decide +kernel
theorem d_L_law_396 : decode code 396 = .ok (.invokevirtual 64, 3) := by decide +kernel
theorem d_L_law_399 : decode code 399 = .ok (.aload_n 2, 1) := by decide +kernel
theorem d_L_law_400 : decode code 400 = .ok (.aload_n 0, 1) := by decide +kernel
theorem d_L_law_401 : decode code 401 = .ok (.iload_n 3, 1) := by decide +kernel
theorem d_L_law_402 : decode code 402 = .ok (.iconst 1, 1) := by decide +kernel
theorem d_L_law_403 : decode code 403 = .ok (.iadd, 1) := by decide +kernel
theorem d_L_law_404 : decode code 404 = .ok (.iaload, 1) := by decide +kernel
theorem d_L_law_405 : decode code 405 = .ok (.invokevirtual 67, 3) := by decide +kernel
theorem d_L_law_408 : decode code 408 = .ok (.if_icmp .eq 133, 3) := by decide +kernel
theorem d_L_law_411 : decode code 411 = .ok (.iconst 0, 1) := by decide +kernel
theorem d_L_law_412 : decode code 412 = .ok (.ireturn, 1) := by decide +kernel
theorem d_L_law_413 : decode code 413 = .ok (.aload_n 1, 1) := by decide +kernel
theorem d_L_law_414 : decode code 414 = .ok (.invokevirtual 68, 3) := by decide +kernel
theorem d_L_law_417 : decode code 417 = .ok (.aload_n 2, 1) := by decide +kernel
theorem d_L_law_418 : decode code 418 = .ok (.invokevirtual 71, 3) := by decide +kernel
theorem d_L_law_421 : decode code 421 = .ok (.if_icmp .eq 120, 3) := by decide +kernel
theorem d_L_law_424 : decode code 424 = .ok (.iconst 0, 1) := by decide +kernel
theorem d_L_law_425 : decode code 425 = .ok (.ireturn, 1) := by decide +kernel
theorem d_L_law_426 : decode code 426 = .ok (.aload_n 1, 1) := by decide +kernel
theorem d_L_law_427 : decode code 427 = .ok (.aload_n 0, 1) := by decide +kernel
theorem d_L_law_428 : decode code 428 = .ok (.iload_n 3, 1) := by decide +kernel
theorem d_L_law_429 : decode code 429 = .ok (.iconst 1, 1) := by decide +kernel
theorem d_L_law_430 : decode code 430 = .ok (.iadd, 1) := by decide +kernel
theorem d_L_law_431 : decode code 431 = .ok (.iaload, 1) := by decide +kernel
theorem d_L_law_432 : decode code 432 = .ok (.aload_n 0, 1) := by decide +kernel
theorem d_L_law_433 : decode code 433 = .ok (.iload_n 3, 1) := by decide +kernel
theorem d_L_law_434 : decode code 434 = .ok (.iconst 2, 1) := by decide +kernel
theorem d_L_law_435 : decode code 435 = .ok (.iadd, 1) := by decide +kernel
theorem d_L_law_436 : decode code 436 = .ok (.iaload, 1) := by decide +kernel
theorem d_L_law_437 : decode code 437 = .ok (.invokevirtual 72, 3) := by decide +kernel
theorem d_L_law_440 : decode code 440 = .ok (.aload_n 2, 1) := by decide +kernel
theorem d_L_law_441 : decode code 441 = .ok (.aload_n 0, 1) := by decide +kernel
theorem d_L_law_442 : decode code 442 = .ok (.iload_n 3, 1) := by decide +kernel
theorem d_L_law_443 : decode code 443 = .ok (.iconst 1, 1) := by decide +kernel
theorem d_L_law_444 : decode code 444 = .ok (.iadd, 1) := by decide +kernel
theorem d_L_law_445 : decode code 445 = .ok (.iaload, 1) := by decide +kernel
theorem d_L_law_446 : decode code 446 = .ok (.aload_n 0, 1) := by decide +kernel
theorem d_L_law_447 : decode code 447 = .ok (.iload_n 3, 1) := by decide +kernel
theorem d_L_law_448 : decode code 448 = .ok (.iconst 2, 1) := by decide +kernel
theorem d_L_law_449 : decode code 449 = .ok (.iadd, 1) := by decide +kernel
theorem d_L_law_450 : decode code 450 = .ok (.iaload, 1) := by decide +kernel
theorem d_L_law_451 : decode code 451 = .ok (.invokevirtual 75, 3) := by decide +kernel
theorem d_L_law_454 : decode code 454 = .ok (.if_icmp .eq 87, 3) := by decide +kernel
theorem d_L_law_457 : decode code 457 = .ok (.iconst 0, 1) := by decide +kernel
theorem d_L_law_458 : decode code 458 = .ok (.ireturn, 1) := by decide +kernel
theorem d_L_law_459 : decode code 459 = .ok (.aload_n 1, 1) := by decide +kernel
theorem d_L_law_460 : decode code 460 = .ok (.invokevirtual 76, 3) := by decide +kernel
theorem d_L_law_463 : decode code 463 = .ok (.aload_n 2, 1) := by decide +kernel
theorem d_L_law_464 : decode code 464 = .ok (.invokevirtual 79, 3) := by decide +kernel
theorem d_L_law_467 : decode code 467 = .ok (.if_icmp .eq 74, 3) := by decide +kernel
theorem d_L_law_470 : decode code 470 = .ok (.iconst 0, 1) := by decide +kernel
theorem d_L_law_471 : decode code 471 = .ok (.ireturn, 1) := by decide +kernel
theorem d_L_law_472 : decode code 472 = .ok (.aload_n 1, 1) := by decide +kernel
theorem d_L_law_473 : decode code 473 = .ok (.invokevirtual 80, 3) := by decide +kernel
theorem d_L_law_476 : decode code 476 = .ok (.aload_n 2, 1) := by decide +kernel
theorem d_L_law_477 : decode code 477 = .ok (.invokevirtual 83, 3) := by decide +kernel
theorem d_L_law_480 : decode code 480 = .ok (.if_icmp .eq 61, 3) := by decide +kernel
theorem d_L_law_483 : decode code 483 = .ok (.iconst 0, 1) := by decide +kernel
theorem d_L_law_484 : decode code 484 = .ok (.ireturn, 1) := by decide +kernel
theorem d_L_law_485 : decode code 485 = .ok (.aload_n 1, 1) := by decide +kernel
theorem d_L_law_486 : decode code 486 = .ok (.aload_n 0, 1) := by decide +kernel
theorem d_L_law_487 : decode code 487 = .ok (.iload_n 3, 1) := by decide +kernel
theorem d_L_law_488 : decode code 488 = .ok (.iconst 1, 1) := by decide +kernel
theorem d_L_law_489 : decode code 489 = .ok (.iadd, 1) := by decide +kernel
theorem d_L_law_490 : decode code 490 = .ok (.iaload, 1) := by decide +kernel
theorem d_L_law_491 : decode code 491 = .ok (.aload_n 0, 1) := by decide +kernel
theorem d_L_law_492 : decode code 492 = .ok (.iload_n 3, 1) := by decide +kernel
theorem d_L_law_493 : decode code 493 = .ok (.iconst 2, 1) := by decide +kernel
theorem d_L_law_494 : decode code 494 = .ok (.iadd, 1) := by decide +kernel
theorem d_L_law_495 : decode code 495 = .ok (.iaload, 1) := by decide +kernel
theorem d_L_law_496 : decode code 496 = .ok (.invokevirtual 84, 3) := by decide +kernel
theorem d_L_law_499 : decode code 499 = .ok (.aload_n 2, 1) := by decide +kernel
theorem d_L_law_500 : decode code 500 = .ok (.aload_n 0, 1) := by decide +kernel
theorem d_L_law_501 : decode code 501 = .ok (.iload_n 3, 1) := by decide +kernel
theorem d_L_law_502 : decode code 502 = .ok (.iconst 1, 1) := by decide +kernel
theorem d_L_law_503 : decode code 503 = .ok (.iadd, 1) := by decide +kernel
theorem d_L_law_504 : decode code 504 = .ok (.iaload, 1) := by decide +kernel
theorem d_L_law_505 : decode code 505 = .ok (.aload_n 0, 1) := by decide +kernel
theorem d_L_law_506 : decode code 506 = .ok (.iload_n 3, 1) := by decide +kernel
theorem d_L_law_507 : decode code 507 = .ok (.iconst 2, 1) := by decide +kernel
theorem d_L_law_508 : decode code 508 = .ok (.iadd, 1) := by decide +kernel
theorem d_L_law_509 : decode code 509 = .ok (.iaload, 1) := by decide +kernel
theorem d_L_law_510 : decode code 510 = .ok (.invokevirtual 87, 3) := by decide +kernel
theorem d_L_law_513 : decode code 513 = .ok (.if_icmp .eq 28, 3) := by decide +kernel
theorem d_L_law_516 : decode code 516 = .ok (.iconst 0, 1) := by decide +kernel
theorem d_L_law_517 : decode code 517 = .ok (.ireturn, 1) := by decide +kernel
theorem d_L_law_518 : decode code 518 = .ok (.aload_n 1, 1) := by decide +kernel
theorem d_L_law_519 : decode code 519 = .ok (.aload_n 0, 1) := by decide +kernel
theorem d_L_law_520 : decode code 520 = .ok (.iload_n 3, 1) := by decide +kernel
theorem d_L_law_521 : decode code 521 = .ok (.iconst 1, 1) := by decide +kernel
theorem d_L_law_522 : decode code 522 = .ok (.iadd, 1) := by decide +kernel
theorem d_L_law_523 : decode code 523 = .ok (.iaload, 1) := by decide +kernel
theorem d_L_law_524 : decode code 524 = .ok (.invokevirtual 88, 3) := by decide +kernel
theorem d_L_law_527 : decode code 527 = .ok (.aload_n 2, 1) := by decide +kernel
theorem d_L_law_528 : decode code 528 = .ok (.aload_n 0, 1) := by decide +kernel
theorem d_L_law_529 : decode code 529 = .ok (.iload_n 3, 1) := by decide +kernel
theorem d_L_law_530 : decode code 530 = .ok (.iconst 1, 1) := by decide +kernel
theorem d_L_law_531 : decode code 531 = .ok (.iadd, 1) := by decide +kernel
theorem d_L_law_532 : decode code 532 = .ok (.iaload, 1) := by decide +kernel
theorem d_L_law_533 : decode code 533 = .ok (.invokevirtual 91, 3) := by decide +kernel
theorem d_L_law_536 : decode code 536 = .ok (.if_icmp .eq 5, 3) := by decide +kernel
theorem d_L_law_539 : decode code 539 = .ok (.iconst 0, 1) := by decide +kernel
theorem d_L_law_540 : decode code 540 = .ok (.ireturn, 1) := by decide +kernel
theorem d_L_law_541 : decode code 541 = .ok (.iinc 3 3, 3) := by decide +kernel
theorem d_L_law_544 : decode code 544 = .ok (.goto (-526), 3) := by decide +kernel
theorem d_L_law_547 : decode code 547 = .ok (.iconst 1, 1) := by decide +kernel
theorem d_L_law_548 : decode code 548 = .ok (.ireturn, 1) := by decide +kernel
end
section
def nF (f : Nat → Nat) : Nat → Int32 := fun j => nI (f j)
def upN (f : Nat → Nat) (k v : Nat) : Nat → Nat := fun j => if j = k then v else f j
theorem upN_s {f : Nat → Nat} {k v : Nat} : upN f k v k = v := by simp [upN]
theorem upN_n {f : Nat → Nat} {k v j : Nat} (h : j ≠ k) : upN f k v j = f j := by simp [upN, h]
theorem nF_up (f : Nat → Nat) (k v : Nat) : upd (nF f) k (nI v) = nF (upN f k v) := by
  funext j
  simp only [upd, nF, upN]
  split <;> rfl
abbrev rmL (k : Nat) : Room := { frames := k, cells := 0, slots := 0, locals := 30 * k }
theorem ri_nat {x : Int32} (h : 0 ≤ x.toInt) : ∃ j : Nat, j < 2 ^ 31 ∧ x = nI j := nI_of (fun g => by rw [Int32.lt_iff_toInt_lt] at g; simp at g; omega)
theorem ri_toI {j : Nat} (h : j < 2 ^ 31) : (nI j).toInt = (j : Int) := nI_toInt h
theorem sm3 {a : Nat} (h : a ≤ 3) : a < 2 ^ 31 := by omega
theorem sm_le {a b : Nat} (h : a ≤ b) (hb : b < 1000000 := by omega) : a < 2 ^ 31 := by omega
section NR
variable {p : Program} {l : Launch} {e : Env} {R : Room} {s : State} {m : MethodId} {args : Array Value} {below : List Frame} {meth : Method} {c : Code} {H : Heap} {locs : List Loc} {cells slots : Nat} {Q : State → Prop}
variable {cc : ByteArray} {pc : Nat} {ls : Array Slot} {rest : List Value}
theorem nr_iadd (hx : p.tables.exec = Jvm.exec) (hb : c.code = cc) {a b : Nat} (hdg : decode cc pc = .ok (.iadd, 1)) (k : W p l e R s m args below meth c H locs cells slots Q (F0 m (pc + 1) ls (.int (nI (a + b)) :: rest))) : W p l e R s m args below meth c H locs cells slots Q (F0 m pc ls (.int (nI b) :: .int (nI a) :: rest)) := lv_iadd hx hb hdg (by rw [nI_add]; exact k)
theorem nr_isub (hx : p.tables.exec = Jvm.exec) (hb : c.code = cc) {a b : Nat} (h : b ≤ a) (hdg : decode cc pc = .ok (.isub, 1)) (k : W p l e R s m args below meth c H locs cells slots Q (F0 m (pc + 1) ls (.int (nI (a - b)) :: rest))) : W p l e R s m args below meth c H locs cells slots Q (F0 m pc ls (.int (nI b) :: .int (nI a) :: rest)) := lv_isub hx hb hdg (by rw [pk_sub h]; exact k)
theorem nr_imul (hx : p.tables.exec = Jvm.exec) (hb : c.code = cc) {a b : Nat} (hdg : decode cc pc = .ok (.imul, 1)) (k : W p l e R s m args below meth c H locs cells slots Q (F0 m (pc + 1) ls (.int (nI (a * b)) :: rest))) : W p l e R s m args below meth c H locs cells slots Q (F0 m pc ls (.int (nI b) :: .int (nI a) :: rest)) := lv_imul hx hb hdg (by rw [pk_mul]; exact k)
theorem nr_idiv (hx : p.tables.exec = Jvm.exec) (hb : c.code = cc) {a b : Nat} (ha : a < 2 ^ 31) (h0 : 0 < b) (hb2 : b < 2 ^ 31) (hdg : decode cc pc = .ok (.idiv, 1)) (k : W p l e R s m args below meth c H locs cells slots Q (F0 m (pc + 1) ls (.int (nI (a / b)) :: rest))) : W p l e R s m args below meth c H locs cells slots Q (F0 m pc ls (.int (nI b) :: .int (nI a) :: rest)) := lv_idiv hx hb hdg (nI_ne0 h0 hb2) (by rw [pk_div ha h0 hb2]; exact k)
theorem nr_icmp_lt (hx : p.tables.exec = Jvm.exec) (hb : c.code = cc) {a b : Nat} (ha : a < 2 ^ 31) (hc : b < 2 ^ 31) {off : Int} {tgt : Nat} (hdg : decode cc pc = .ok (.if_icmp .lt off, 3)) (ht : (pc : Int) + off = (tgt : Int)) (kt : a < b → W p l e R s m args below meth c H locs cells slots Q (F0 m tgt ls (rest))) (kf : b ≤ a → W p l e R s m args below meth c H locs cells slots Q (F0 m (pc + 3) ls (rest))) : W p l e R s m args below meth c H locs cells slots Q (F0 m pc ls (.int (nI b) :: .int (nI a) :: rest)) := lv_icmp_lt hx hb hdg ht (fun h => kt ((nI_ltI ha hc).mp h)) (fun h => kf (Decidable.byContradiction fun w => h ((nI_ltI ha hc).mpr (by omega))))
theorem nr_icmp_le (hx : p.tables.exec = Jvm.exec) (hb : c.code = cc) {a b : Nat} (ha : a < 2 ^ 31) (hc : b < 2 ^ 31) {off : Int} {tgt : Nat} (hdg : decode cc pc = .ok (.if_icmp .le off, 3)) (ht : (pc : Int) + off = (tgt : Int)) (kt : a ≤ b → W p l e R s m args below meth c H locs cells slots Q (F0 m tgt ls (rest))) (kf : b < a → W p l e R s m args below meth c H locs cells slots Q (F0 m (pc + 3) ls (rest))) : W p l e R s m args below meth c H locs cells slots Q (F0 m pc ls (.int (nI b) :: .int (nI a) :: rest)) := lv_icmp_le hx hb hdg ht (fun h => kt ((nI_leI ha hc).mp h)) (fun h => kf (Decidable.byContradiction fun w => h ((nI_leI ha hc).mpr (by omega))))
theorem nr_icmp_gt (hx : p.tables.exec = Jvm.exec) (hb : c.code = cc) {a b : Nat} (ha : a < 2 ^ 31) (hc : b < 2 ^ 31) {off : Int} {tgt : Nat} (hdg : decode cc pc = .ok (.if_icmp .gt off, 3)) (ht : (pc : Int) + off = (tgt : Int)) (kt : b < a → W p l e R s m args below meth c H locs cells slots Q (F0 m tgt ls (rest))) (kf : a ≤ b → W p l e R s m args below meth c H locs cells slots Q (F0 m (pc + 3) ls (rest))) : W p l e R s m args below meth c H locs cells slots Q (F0 m pc ls (.int (nI b) :: .int (nI a) :: rest)) := lv_icmp_gt hx hb hdg ht (fun h => kt ((nI_ltI hc ha).mp h)) (fun h => kf (Decidable.byContradiction fun w => h ((nI_ltI hc ha).mpr (by omega))))
theorem nr_icmp_ge (hx : p.tables.exec = Jvm.exec) (hb : c.code = cc) {a b : Nat} (ha : a < 2 ^ 31) (hc : b < 2 ^ 31) {off : Int} {tgt : Nat} (hdg : decode cc pc = .ok (.if_icmp .ge off, 3)) (ht : (pc : Int) + off = (tgt : Int)) (kt : b ≤ a → W p l e R s m args below meth c H locs cells slots Q (F0 m tgt ls (rest))) (kf : a < b → W p l e R s m args below meth c H locs cells slots Q (F0 m (pc + 3) ls (rest))) : W p l e R s m args below meth c H locs cells slots Q (F0 m pc ls (.int (nI b) :: .int (nI a) :: rest)) := lv_icmp_ge hx hb hdg ht (fun h => kt ((nI_leI hc ha).mp h)) (fun h => kf (Decidable.byContradiction fun w => h ((nI_leI hc ha).mpr (by omega))))
theorem nr_icmp_eq (hx : p.tables.exec = Jvm.exec) (hb : c.code = cc) {a b : Nat} (ha : a < 2 ^ 31) (hc : b < 2 ^ 31) {off : Int} {tgt : Nat} (hdg : decode cc pc = .ok (.if_icmp .eq off, 3)) (ht : (pc : Int) + off = (tgt : Int)) (kt : a = b → W p l e R s m args below meth c H locs cells slots Q (F0 m tgt ls (rest))) (kf : a ≠ b → W p l e R s m args below meth c H locs cells slots Q (F0 m (pc + 3) ls (rest))) : W p l e R s m args below meth c H locs cells slots Q (F0 m pc ls (.int (nI b) :: .int (nI a) :: rest)) := lv_icmp_eq hx hb hdg ht (fun h => kt ((nI_eq ha hc).mp h)) (fun h => kf (Decidable.byContradiction fun w => h ((nI_eq ha hc).mpr (by omega))))
theorem nr_icmp_ne (hx : p.tables.exec = Jvm.exec) (hb : c.code = cc) {a b : Nat} (ha : a < 2 ^ 31) (hc : b < 2 ^ 31) {off : Int} {tgt : Nat} (hdg : decode cc pc = .ok (.if_icmp .ne off, 3)) (ht : (pc : Int) + off = (tgt : Int)) (kt : a ≠ b → W p l e R s m args below meth c H locs cells slots Q (F0 m tgt ls (rest))) (kf : a = b → W p l e R s m args below meth c H locs cells slots Q (F0 m (pc + 3) ls (rest))) : W p l e R s m args below meth c H locs cells slots Q (F0 m pc ls (.int (nI b) :: .int (nI a) :: rest)) := lv_icmp_ne hx hb hdg ht (fun h => kt (fun w => h ((nI_eq ha hc).mpr w))) (fun h => kf ((nI_eq ha hc).mp h))
theorem ri_icmp_lt (hx : p.tables.exec = Jvm.exec) (hb : c.code = cc) {x : Int32} {b : Nat} (hc : b < 2 ^ 31) {off : Int} {tgt : Nat} (hdg : decode cc pc = .ok (.if_icmp .lt off, 3)) (ht : (pc : Int) + off = (tgt : Int)) (kt : x.toInt < (b : Int) → W p l e R s m args below meth c H locs cells slots Q (F0 m tgt ls (rest))) (kf : (b : Int) ≤ x.toInt → W p l e R s m args below meth c H locs cells slots Q (F0 m (pc + 3) ls (rest))) : W p l e R s m args below meth c H locs cells slots Q (F0 m pc ls (.int (nI b) :: .int x :: rest)) := lv_icmp_lt hx hb hdg ht (fun h => kt (by rw [Int32.lt_iff_toInt_lt, nI_toInt hc] at h; exact h)) (fun h => kf (by rw [Int32.lt_iff_toInt_lt, nI_toInt hc] at h; omega))
theorem ri_icmp_le (hx : p.tables.exec = Jvm.exec) (hb : c.code = cc) {x : Int32} {b : Nat} (hc : b < 2 ^ 31) {off : Int} {tgt : Nat} (hdg : decode cc pc = .ok (.if_icmp .le off, 3)) (ht : (pc : Int) + off = (tgt : Int)) (kt : x.toInt ≤ (b : Int) → W p l e R s m args below meth c H locs cells slots Q (F0 m tgt ls (rest))) (kf : (b : Int) < x.toInt → W p l e R s m args below meth c H locs cells slots Q (F0 m (pc + 3) ls (rest))) : W p l e R s m args below meth c H locs cells slots Q (F0 m pc ls (.int (nI b) :: .int x :: rest)) := lv_icmp_le hx hb hdg ht (fun h => kt (by rw [Int32.le_iff_toInt_le, nI_toInt hc] at h; exact h)) (fun h => kf (by rw [Int32.le_iff_toInt_le, nI_toInt hc] at h; omega))
theorem ri_icmp_gt (hx : p.tables.exec = Jvm.exec) (hb : c.code = cc) {x : Int32} {b : Nat} (hc : b < 2 ^ 31) {off : Int} {tgt : Nat} (hdg : decode cc pc = .ok (.if_icmp .gt off, 3)) (ht : (pc : Int) + off = (tgt : Int)) (kt : (b : Int) < x.toInt → W p l e R s m args below meth c H locs cells slots Q (F0 m tgt ls (rest))) (kf : x.toInt ≤ (b : Int) → W p l e R s m args below meth c H locs cells slots Q (F0 m (pc + 3) ls (rest))) : W p l e R s m args below meth c H locs cells slots Q (F0 m pc ls (.int (nI b) :: .int x :: rest)) := lv_icmp_gt hx hb hdg ht (fun h => kt (by rw [Int32.lt_iff_toInt_lt, nI_toInt hc] at h; exact h)) (fun h => kf (by rw [Int32.lt_iff_toInt_lt, nI_toInt hc] at h; omega))
theorem ri_icmp_ge (hx : p.tables.exec = Jvm.exec) (hb : c.code = cc) {x : Int32} {b : Nat} (hc : b < 2 ^ 31) {off : Int} {tgt : Nat} (hdg : decode cc pc = .ok (.if_icmp .ge off, 3)) (ht : (pc : Int) + off = (tgt : Int)) (kt : (b : Int) ≤ x.toInt → W p l e R s m args below meth c H locs cells slots Q (F0 m tgt ls (rest))) (kf : x.toInt < (b : Int) → W p l e R s m args below meth c H locs cells slots Q (F0 m (pc + 3) ls (rest))) : W p l e R s m args below meth c H locs cells slots Q (F0 m pc ls (.int (nI b) :: .int x :: rest)) := lv_icmp_ge hx hb hdg ht (fun h => kt (by rw [Int32.le_iff_toInt_le, nI_toInt hc] at h; exact h)) (fun h => kf (by rw [Int32.le_iff_toInt_le, nI_toInt hc] at h; omega))
theorem ri_if_lt (hx : p.tables.exec = Jvm.exec) (hb : c.code = cc) {x : Int32} {off : Int} {tgt : Nat} (hdg : decode cc pc = .ok (.ifCond .lt off, 3)) (ht : (pc : Int) + off = (tgt : Int)) (kt : x.toInt < 0 → W p l e R s m args below meth c H locs cells slots Q (F0 m tgt ls (rest))) (kf : 0 ≤ x.toInt → W p l e R s m args below meth c H locs cells slots Q (F0 m (pc + 3) ls (rest))) : W p l e R s m args below meth c H locs cells slots Q (F0 m pc ls (.int x :: rest)) := lv_if_lt hx hb hdg ht (fun h => kt (by rw [Int32.lt_iff_toInt_lt] at h; simpa using h)) (fun h => kf (by rw [Int32.lt_iff_toInt_lt] at h; simp at h; omega))
theorem ri_if_ge (hx : p.tables.exec = Jvm.exec) (hb : c.code = cc) {x : Int32} {off : Int} {tgt : Nat} (hdg : decode cc pc = .ok (.ifCond .ge off, 3)) (ht : (pc : Int) + off = (tgt : Int)) (kt : 0 ≤ x.toInt → W p l e R s m args below meth c H locs cells slots Q (F0 m tgt ls (rest))) (kf : x.toInt < 0 → W p l e R s m args below meth c H locs cells slots Q (F0 m (pc + 3) ls (rest))) : W p l e R s m args below meth c H locs cells slots Q (F0 m pc ls (.int x :: rest)) := lv_if_ge hx hb hdg ht (fun h => kt (by rw [Int32.le_iff_toInt_le] at h; simpa using h)) (fun h => kf (by rw [Int32.le_iff_toInt_le] at h; simp at h; omega))
theorem nr_if_eq (hx : p.tables.exec = Jvm.exec) (hb : c.code = cc) {a : Nat} (ha : a < 2 ^ 31) {off : Int} {tgt : Nat} (hdg : decode cc pc = .ok (.ifCond .eq off, 3)) (ht : (pc : Int) + off = (tgt : Int)) (kt : a = 0 → W p l e R s m args below meth c H locs cells slots Q (F0 m tgt ls (rest))) (kf : a ≠ 0 → W p l e R s m args below meth c H locs cells slots Q (F0 m (pc + 3) ls (rest))) : W p l e R s m args below meth c H locs cells slots Q (F0 m pc ls (.int (nI a) :: rest)) := lv_if_eq hx hb hdg ht (fun h => kt (Decidable.byContradiction fun w => nI_ne0 (Nat.pos_of_ne_zero w) ha h)) (fun h => kf (fun w => h (by rw [w]; rfl)))
theorem nr_if_ne (hx : p.tables.exec = Jvm.exec) (hb : c.code = cc) {a : Nat} (ha : a < 2 ^ 31) {off : Int} {tgt : Nat} (hdg : decode cc pc = .ok (.ifCond .ne off, 3)) (ht : (pc : Int) + off = (tgt : Int)) (kt : a ≠ 0 → W p l e R s m args below meth c H locs cells slots Q (F0 m tgt ls (rest))) (kf : a = 0 → W p l e R s m args below meth c H locs cells slots Q (F0 m (pc + 3) ls (rest))) : W p l e R s m args below meth c H locs cells slots Q (F0 m pc ls (.int (nI a) :: rest)) := lv_if_ne hx hb hdg ht (fun h => kt (fun w => h (by rw [w]; rfl))) (fun h => kf (Decidable.byContradiction fun w => nI_ne0 (Nat.pos_of_ne_zero w) ha h))
theorem nr_if_le (hx : p.tables.exec = Jvm.exec) (hb : c.code = cc) {a : Nat} (ha : a < 2 ^ 31) {off : Int} {tgt : Nat} (hdg : decode cc pc = .ok (.ifCond .le off, 3)) (ht : (pc : Int) + off = (tgt : Int)) (kt : a = 0 → W p l e R s m args below meth c H locs cells slots Q (F0 m tgt ls (rest))) (kf : 0 < a → W p l e R s m args below meth c H locs cells slots Q (F0 m (pc + 3) ls (rest))) : W p l e R s m args below meth c H locs cells slots Q (F0 m pc ls (.int (nI a) :: rest)) := lv_if_le hx hb hdg ht (fun h => kt (Decidable.byContradiction fun w => nI_nle (Nat.pos_of_ne_zero w) ha h)) (fun h => kf (Nat.pos_of_ne_zero fun w => h (by rw [w]; decide)))
theorem nr_if_lt (hx : p.tables.exec = Jvm.exec) (hb : c.code = cc) {a : Nat} (ha : a < 2 ^ 31) {off : Int} (hdg : decode cc pc = .ok (.ifCond .lt off, 3)) (tgt : Nat) (ht : (pc : Int) + off = (tgt : Int)) (kf : W p l e R s m args below meth c H locs cells slots Q (F0 m (pc + 3) ls (rest))) : W p l e R s m args below meth c H locs cells slots Q (F0 m pc ls (.int (nI a) :: rest)) := lv_if_lt hx hb hdg ht (fun h => absurd h (nI_pos ha)) (fun _ => kf)
theorem nr_iconst (hx : p.tables.exec = Jvm.exec) (hb : c.code = cc) (n : Nat) {z : Int} (hz : z = (n : Int)) (hdg : decode cc pc = .ok (.iconst z, 1)) (k : W p l e R s m args below meth c H locs cells slots Q (F0 m (pc + 1) ls (.int (nI n) :: rest))) : W p l e R s m args below meth c H locs cells slots Q (F0 m pc ls rest) := lv_iconst hx hb hdg (by rw [hz]; rfl) k
theorem nr_bipush (hx : p.tables.exec = Jvm.exec) (hb : c.code = cc) (n : Nat) {z : Int} (hz : (Int8.ofInt z).toInt32 = nI n) (hdg : decode cc pc = .ok (.bipush z, 2)) (k : W p l e R s m args below meth c H locs cells slots Q (F0 m (pc + 2) ls (.int (nI n) :: rest))) : W p l e R s m args below meth c H locs cells slots Q (F0 m pc ls rest) := lv_bipush hx hb hdg hz k
theorem nr_iinc (hx : p.tables.exec = Jvm.exec) (hb : c.code = cc) {i nL k d x : Nat} {z : Int} {lv lv' : List (Nat × Value)} (hdg : decode cc pc = .ok (.iinc i z, 3)) (h : lv_has ls nL lv) (hz : z = (d : Int)) (hk : lv[k]? = some (i, .int (nI x))) (hn : i < nL) (hl : (i, Value.int (nI (x + d))) :: lv.filter (fun q => !(q.1 == i) && !(q.1 + 1 == i && q.2.category == 2)) = lv')
    (kk : ∀ ls' : Array Slot, lv_has ls' nL lv' → W p l e R s m args below meth c H locs cells slots Q (F0 m (pc + 3) ls' rest)) : W p l e R s m args below meth c H locs cells slots Q (F0 m pc ls rest) := lv_iinc hx hb hdg h hk (by rw [hz, ← nI_add]; rfl) hn hl kk
theorem nr_idec (hx : p.tables.exec = Jvm.exec) (hb : c.code = cc) {i nL k x : Nat} {lv lv' : List (Nat × Value)} (hdg : decode cc pc = .ok (.iinc i (-1), 3)) (h : lv_has ls nL lv) (hx0 : 0 < x) (hk : lv[k]? = some (i, .int (nI x))) (hn : i < nL) (hl : (i, Value.int (nI (x - 1))) :: lv.filter (fun q => !(q.1 == i) && !(q.1 + 1 == i && q.2.category == 2)) = lv')
    (kk : ∀ ls' : Array Slot, lv_has ls' nL lv' → W p l e R s m args below meth c H locs cells slots Q (F0 m (pc + 3) ls' rest)) : W p l e R s m args below meth c H locs cells slots Q (F0 m pc ls rest) := lv_iinc hx hb hdg h hk (by have q := pk_m1 (x - 1); rw [show x - 1 + 1 = x by omega] at q; exact q) hn hl kk
end NR
abbrev XS : Type := (Nat → Nat) × (Nat → Nat) × (Nat → Nat) × (Nat → Nat) × (Nat → Nat) × Nat × Nat × Nat
abbrev X_w (cA : ClassId) (a : Nat → Nat) (u : XS) : va_W := [(a 0, .inr (0, [.ref (a 1), .ref (a 2), .ref (a 3), .ref (a 4), .ref (a 5), .int (nI u.2.2.2.2.2.1), .int (nI u.2.2.2.2.2.2.1), .int (nI u.2.2.2.2.2.2.2)])), (a 1, .inl (cA, 48, .inl (nF u.1))), (a 2, .inl (cA, 49, .inl (nF u.2.1))), (a 3, .inl (cA, 100, .inl (nF u.2.2.1))), (a 4, .inl (cA, 100, .inl (nF u.2.2.2.1))), (a 5, .inl (cA, 100, .inl (nF u.2.2.2.2.1)))]
def X_I (dC : Nat → ClassId) (dI : Nat → Nat → Nat) (cA : ClassId) (a : Nat → Nat) (A : Nat → Prop) (s : State) (H0 H : Heap) (locs : List Loc) (u : XS) : Prop := va_P (dC, dI) classes (X_w cA a u) H ∧ va_D A (X_w cA a u) ∧ va_S A H0 H locs ∧ va_K (dC, dI) classes [(cA, .int)] s ∧ ∀ q : Nat, H0.size ≤ q → A q
abbrev X_at (dC : Nat → ClassId) (dI : Nat → Nat → Nat) (cA : ClassId) (a : Nat → Nat) (A : Nat → Prop) (u : XS) (t : State) : Prop := va_P (dC, dI) classes (X_w cA a u) t.heap ∧ va_K (dC, dI) classes [(cA, .int)] t ∧ va_D A (X_w cA a u)
abbrev X_pre (dC : Nat → ClassId) (dI : Nat → Nat → Nat) (cA : ClassId) (a : Nat → Nat) (sz : Nat) (u : XS) (U : State) : Prop := U.heap.size = sz ∧ va_P (dC, dI) classes (X_w cA a u) U.heap ∧ va_K (dC, dI) classes [(cA, .int)] U ∧ va_D (fun _ => True) (X_w cA a u)
/-- a method's contract: an int or a boolean comes back -/
def X_Mi (l : Launch) (dC : Nat → ClassId) (dI : Nat → Nat → Nat) (cA : ClassId) (a : Nat → Nat) (y : MethodName) (b : ByteArray) (maxL : Nat) (rt : Option FieldType) (rm : Room) (As : List Value) (u : XS) (post : Int32 → XS → Prop) : Prop := ∀ sz : Nat, Met l y (Cond.code y b maxL rt :: lw_gt) rm (va_Pc (.ref (a 0) :: As) (X_pre dC dI cA a sz u)) (va_Qi post (X_at dC dI cA a (va_A (X_w cA a u) sz)) (va_A (X_w cA a u) sz)) 0 0 (va_A (X_w cA a u) sz)
/-- a method's contract: nothing comes back -/
def X_Mv (l : Launch) (dC : Nat → ClassId) (dI : Nat → Nat → Nat) (cA : ClassId) (a : Nat → Nat) (y : MethodName) (b : ByteArray) (maxL : Nat) (rm : Room) (As : List Value) (u : XS) (post : XS → Prop) : Prop := ∀ sz : Nat, Met l y (Cond.code y b maxL none :: lw_gt) rm (va_Pc (.ref (a 0) :: As) (X_pre dC dI cA a sz u)) (va_Qv post (X_at dC dI cA a (va_A (X_w cA a u) sz)) (va_A (X_w cA a u) sz)) 0 0 (va_A (X_w cA a u) sz)
section RX
variable {p : Program} {l : Launch} {e : Env} {R : Room} {s : State} {m : MethodId} {args : Array Value} {below : List Frame} {meth : Method} {c : Code} {H H0 : Heap} {locs : List Loc} {cells slots nL : Nat} {Q : State → Prop}
variable {cc : ByteArray} {pc : Nat} {ls : Array Slot} {rest : List Value} {dC : Nat → ClassId} {dI : Nat → Nat → Nat} {cA : ClassId} {a : Nat → Nat} {A : Nat → Prop} {T Af Fi La St : Nat → Nat} {n rc cu : Nat}
theorem X_get_text (S : CallFix p m c cc nL s args lw_gt R_X) (I : X_I dC dI cA a A s H0 H locs (T, Af, Fi, La, St, n, rc, cu)) (hdg : decode cc pc = .ok (.getfield 7, 3)) (kk : W p l e R s m args below meth c H locs cells slots Q (F0 m (pc + 3) ls (.ref (a 1) :: rest))) : W p l e R s m args below meth c H locs cells slots Q (F0 m pc ls (.ref (a 0) :: rest)) := va_get (D := (dC, dI)) (ci := 0) (v := .ref (a 1)) (C := R_X) (T := F_X) (N := 8) S.1 S.2.1 S.2.2.2.2 i_X S.2.2.2.1 I.2.2.2.1 I.1 0 rfl rfl 0 (by decide) (S.2.2.2.2 _ fl_X_text) (fun _ h => h) rfl hdg kk
theorem X_get_after (S : CallFix p m c cc nL s args lw_gt R_X) (I : X_I dC dI cA a A s H0 H locs (T, Af, Fi, La, St, n, rc, cu)) (hdg : decode cc pc = .ok (.getfield 13, 3)) (kk : W p l e R s m args below meth c H locs cells slots Q (F0 m (pc + 3) ls (.ref (a 2) :: rest))) : W p l e R s m args below meth c H locs cells slots Q (F0 m pc ls (.ref (a 0) :: rest)) := va_get (D := (dC, dI)) (ci := 0) (v := .ref (a 2)) (C := R_X) (T := F_X) (N := 8) S.1 S.2.1 S.2.2.2.2 i_X S.2.2.2.1 I.2.2.2.1 I.1 0 rfl rfl 1 (by decide) (S.2.2.2.2 _ fl_X_after) (fun _ h => h) rfl hdg kk
theorem X_get_first (S : CallFix p m c cc nL s args lw_gt R_X) (I : X_I dC dI cA a A s H0 H locs (T, Af, Fi, La, St, n, rc, cu)) (hdg : decode cc pc = .ok (.getfield 16, 3)) (kk : W p l e R s m args below meth c H locs cells slots Q (F0 m (pc + 3) ls (.ref (a 3) :: rest))) : W p l e R s m args below meth c H locs cells slots Q (F0 m pc ls (.ref (a 0) :: rest)) := va_get (D := (dC, dI)) (ci := 0) (v := .ref (a 3)) (C := R_X) (T := F_X) (N := 8) S.1 S.2.1 S.2.2.2.2 i_X S.2.2.2.1 I.2.2.2.1 I.1 0 rfl rfl 2 (by decide) (S.2.2.2.2 _ fl_X_first) (fun _ h => h) rfl hdg kk
theorem X_get_last (S : CallFix p m c cc nL s args lw_gt R_X) (I : X_I dC dI cA a A s H0 H locs (T, Af, Fi, La, St, n, rc, cu)) (hdg : decode cc pc = .ok (.getfield 19, 3)) (kk : W p l e R s m args below meth c H locs cells slots Q (F0 m (pc + 3) ls (.ref (a 4) :: rest))) : W p l e R s m args below meth c H locs cells slots Q (F0 m pc ls (.ref (a 0) :: rest)) := va_get (D := (dC, dI)) (ci := 0) (v := .ref (a 4)) (C := R_X) (T := F_X) (N := 8) S.1 S.2.1 S.2.2.2.2 i_X S.2.2.2.1 I.2.2.2.1 I.1 0 rfl rfl 3 (by decide) (S.2.2.2.2 _ fl_X_last) (fun _ h => h) rfl hdg kk
theorem X_get_step (S : CallFix p m c cc nL s args lw_gt R_X) (I : X_I dC dI cA a A s H0 H locs (T, Af, Fi, La, St, n, rc, cu)) (hdg : decode cc pc = .ok (.getfield 22, 3)) (kk : W p l e R s m args below meth c H locs cells slots Q (F0 m (pc + 3) ls (.ref (a 5) :: rest))) : W p l e R s m args below meth c H locs cells slots Q (F0 m pc ls (.ref (a 0) :: rest)) := va_get (D := (dC, dI)) (ci := 0) (v := .ref (a 5)) (C := R_X) (T := F_X) (N := 8) S.1 S.2.1 S.2.2.2.2 i_X S.2.2.2.1 I.2.2.2.1 I.1 0 rfl rfl 4 (by decide) (S.2.2.2.2 _ fl_X_step) (fun _ h => h) rfl hdg kk
theorem X_get_length (S : CallFix p m c cc nL s args lw_gt R_X) (I : X_I dC dI cA a A s H0 H locs (T, Af, Fi, La, St, n, rc, cu)) (hdg : decode cc pc = .ok (.getfield 25, 3)) (kk : W p l e R s m args below meth c H locs cells slots Q (F0 m (pc + 3) ls (.int (nI n) :: rest))) : W p l e R s m args below meth c H locs cells slots Q (F0 m pc ls (.ref (a 0) :: rest)) := va_get (D := (dC, dI)) (ci := 0) (v := .int (nI n)) (C := R_X) (T := F_X) (N := 8) S.1 S.2.1 S.2.2.2.2 i_X S.2.2.2.1 I.2.2.2.1 I.1 0 rfl rfl 5 (by decide) (S.2.2.2.2 _ fl_X_length) (fun _ h => h) rfl hdg kk
theorem X_get_runCount (S : CallFix p m c cc nL s args lw_gt R_X) (I : X_I dC dI cA a A s H0 H locs (T, Af, Fi, La, St, n, rc, cu)) (hdg : decode cc pc = .ok (.getfield 40, 3)) (kk : W p l e R s m args below meth c H locs cells slots Q (F0 m (pc + 3) ls (.int (nI rc) :: rest))) : W p l e R s m args below meth c H locs cells slots Q (F0 m pc ls (.ref (a 0) :: rest)) := va_get (D := (dC, dI)) (ci := 0) (v := .int (nI rc)) (C := R_X) (T := F_X) (N := 8) S.1 S.2.1 S.2.2.2.2 i_X S.2.2.2.1 I.2.2.2.1 I.1 0 rfl rfl 6 (by decide) (S.2.2.2.2 _ fl_X_runCount) (fun _ h => h) rfl hdg kk
theorem X_get_current (S : CallFix p m c cc nL s args lw_gt R_X) (I : X_I dC dI cA a A s H0 H locs (T, Af, Fi, La, St, n, rc, cu)) (hdg : decode cc pc = .ok (.getfield 29, 3)) (kk : W p l e R s m args below meth c H locs cells slots Q (F0 m (pc + 3) ls (.int (nI cu) :: rest))) : W p l e R s m args below meth c H locs cells slots Q (F0 m pc ls (.ref (a 0) :: rest)) := va_get (D := (dC, dI)) (ci := 0) (v := .int (nI cu)) (C := R_X) (T := F_X) (N := 8) S.1 S.2.1 S.2.2.2.2 i_X S.2.2.2.1 I.2.2.2.1 I.1 0 rfl rfl 7 (by decide) (S.2.2.2.2 _ fl_X_current) (fun _ h => h) rfl hdg kk
theorem X_put_length (S : CallFix p m c cc nL s args lw_gt R_X) (I : X_I dC dI cA a A s H0 H locs (T, Af, Fi, La, St, n, rc, cu)) {v : Nat} (hdg : decode cc pc = .ok (.putfield 25, 3)) (kk : ∀ (H1 : Heap) (locs1 : List Loc), X_I dC dI cA a A s H0 H1 locs1 (T, Af, Fi, La, St, v, rc, cu) → W p l e R s m args below meth c H1 locs1 cells slots Q (F0 m (pc + 3) ls (rest))) : W p l e R s m args below meth c H locs cells slots Q (F0 m pc ls (.int (nI v) :: .ref (a 0) :: rest)) := va_put (D := (dC, dI)) (ci := 0) (v := .int (nI v)) (ty := .int) (C := R_X) (T := F_X) (N := 8) S.1 S.2.1 S.2.2.2.2 i_X t_X t_X_ok n_X S.2.2.2.1 I.2.2.2.1 I.1 I.2.1 I.2.2.1 0 rfl rfl 5 (by decide) (S.2.2.2.2 _ fl_X_length) (fun _ h => h) rfl (by decide +kernel) rfl rfl (Nat.le_of_ble_eq_true rfl) hdg (fun H1 locs1 hP hD hS => kk H1 locs1 ⟨hP, hD, hS, I.2.2.2⟩)
theorem X_put_runCount (S : CallFix p m c cc nL s args lw_gt R_X) (I : X_I dC dI cA a A s H0 H locs (T, Af, Fi, La, St, n, rc, cu)) {v : Nat} (hdg : decode cc pc = .ok (.putfield 40, 3)) (kk : ∀ (H1 : Heap) (locs1 : List Loc), X_I dC dI cA a A s H0 H1 locs1 (T, Af, Fi, La, St, n, v, cu) → W p l e R s m args below meth c H1 locs1 cells slots Q (F0 m (pc + 3) ls (rest))) : W p l e R s m args below meth c H locs cells slots Q (F0 m pc ls (.int (nI v) :: .ref (a 0) :: rest)) := va_put (D := (dC, dI)) (ci := 0) (v := .int (nI v)) (ty := .int) (C := R_X) (T := F_X) (N := 8) S.1 S.2.1 S.2.2.2.2 i_X t_X t_X_ok n_X S.2.2.2.1 I.2.2.2.1 I.1 I.2.1 I.2.2.1 0 rfl rfl 6 (by decide) (S.2.2.2.2 _ fl_X_runCount) (fun _ h => h) rfl (by decide +kernel) rfl rfl (Nat.le_of_ble_eq_true rfl) hdg (fun H1 locs1 hP hD hS => kk H1 locs1 ⟨hP, hD, hS, I.2.2.2⟩)
theorem X_put_current (S : CallFix p m c cc nL s args lw_gt R_X) (I : X_I dC dI cA a A s H0 H locs (T, Af, Fi, La, St, n, rc, cu)) {v : Nat} (hv : v ≤ 1) (hdg : decode cc pc = .ok (.putfield 29, 3)) (kk : ∀ (H1 : Heap) (locs1 : List Loc), X_I dC dI cA a A s H0 H1 locs1 (T, Af, Fi, La, St, n, rc, v) → W p l e R s m args below meth c H1 locs1 cells slots Q (F0 m (pc + 3) ls (rest))) : W p l e R s m args below meth c H locs cells slots Q (F0 m pc ls (.int (nI v) :: .ref (a 0) :: rest)) := va_put (D := (dC, dI)) (ci := 0) (v := .int (nI v)) (ty := .boolean) (C := R_X) (T := F_X) (N := 8) S.1 S.2.1 S.2.2.2.2 i_X t_X t_X_ok n_X S.2.2.2.1 I.2.2.2.1 I.1 I.2.1 I.2.2.1 0 rfl rfl 7 (by decide) (S.2.2.2.2 _ fl_X_current) (fun _ h => h) rfl (by decide +kernel) (by rcases (show v = 0 ∨ v = 1 by omega) with rfl | rfl <;> rfl) (by rcases (show v = 0 ∨ v = 1 by omega) with rfl | rfl <;> rfl) (Nat.le_of_ble_eq_true rfl) hdg (fun H1 locs1 hP hD hS => kk H1 locs1 ⟨hP, hD, hS, I.2.2.2⟩)
theorem X_ald1 (S : CallFix p m c cc nL s args lw_gt R_X) (I : X_I dC dI cA a A s H0 H locs (T, Af, Fi, La, St, n, rc, cu)) {i : Nat} (hi : i < 48) (hdg : decode cc pc = .ok (.iaload, 1)) (kk : W p l e R s m args below meth c H locs cells slots Q (F0 m (pc + 1) ls (.int (nI (T i)) :: rest))) : W p l e R s m args below meth c H locs cells slots Q (F0 m pc ls (.int (nI i) :: .ref (a 1) :: rest)) := va_iald (D := (dC, dI)) S.1 S.2.1 I.2.2.2.1 I.1 1 0 rfl rfl (vp_in_nI hi (by decide)) hdg (by rw [nI_clamp (by omega)]; exact kk)
theorem X_ast1 (S : CallFix p m c cc nL s args lw_gt R_X) (I : X_I dC dI cA a A s H0 H locs (T, Af, Fi, La, St, n, rc, cu)) {i v : Nat} (hi : i < 48) (hdg : decode cc pc = .ok (.iastore, 1)) (kk : ∀ (H1 : Heap) (locs1 : List Loc), X_I dC dI cA a A s H0 H1 locs1 (upN T i v, Af, Fi, La, St, n, rc, cu) → W p l e R s m args below meth c H1 locs1 cells slots Q (F0 m (pc + 1) ls (rest))) : W p l e R s m args below meth c H locs cells slots Q (F0 m pc ls (.int (nI v) :: .int (nI i) :: .ref (a 1) :: rest)) := va_iast (D := (dC, dI)) S.1 S.2.1 I.2.2.2.1 I.1 I.2.1 I.2.2.1 1 0 rfl rfl (vp_in_nI hi (by decide)) hdg (fun H1 locs1 hP hD hS => kk H1 locs1 (by rw [nI_clamp (by omega), nF_up] at hP hD; exact ⟨hP, hD, hS, I.2.2.2⟩))
theorem X_ald2 (S : CallFix p m c cc nL s args lw_gt R_X) (I : X_I dC dI cA a A s H0 H locs (T, Af, Fi, La, St, n, rc, cu)) {i : Nat} (hi : i < 49) (hdg : decode cc pc = .ok (.iaload, 1)) (kk : W p l e R s m args below meth c H locs cells slots Q (F0 m (pc + 1) ls (.int (nI (Af i)) :: rest))) : W p l e R s m args below meth c H locs cells slots Q (F0 m pc ls (.int (nI i) :: .ref (a 2) :: rest)) := va_iald (D := (dC, dI)) S.1 S.2.1 I.2.2.2.1 I.1 2 0 rfl rfl (vp_in_nI hi (by decide)) hdg (by rw [nI_clamp (by omega)]; exact kk)
theorem X_ast2 (S : CallFix p m c cc nL s args lw_gt R_X) (I : X_I dC dI cA a A s H0 H locs (T, Af, Fi, La, St, n, rc, cu)) {i v : Nat} (hi : i < 49) (hdg : decode cc pc = .ok (.iastore, 1)) (kk : ∀ (H1 : Heap) (locs1 : List Loc), X_I dC dI cA a A s H0 H1 locs1 (T, upN Af i v, Fi, La, St, n, rc, cu) → W p l e R s m args below meth c H1 locs1 cells slots Q (F0 m (pc + 1) ls (rest))) : W p l e R s m args below meth c H locs cells slots Q (F0 m pc ls (.int (nI v) :: .int (nI i) :: .ref (a 2) :: rest)) := va_iast (D := (dC, dI)) S.1 S.2.1 I.2.2.2.1 I.1 I.2.1 I.2.2.1 2 0 rfl rfl (vp_in_nI hi (by decide)) hdg (fun H1 locs1 hP hD hS => kk H1 locs1 (by rw [nI_clamp (by omega), nF_up] at hP hD; exact ⟨hP, hD, hS, I.2.2.2⟩))
theorem X_ald3 (S : CallFix p m c cc nL s args lw_gt R_X) (I : X_I dC dI cA a A s H0 H locs (T, Af, Fi, La, St, n, rc, cu)) {i : Nat} (hi : i < 100) (hdg : decode cc pc = .ok (.iaload, 1)) (kk : W p l e R s m args below meth c H locs cells slots Q (F0 m (pc + 1) ls (.int (nI (Fi i)) :: rest))) : W p l e R s m args below meth c H locs cells slots Q (F0 m pc ls (.int (nI i) :: .ref (a 3) :: rest)) := va_iald (D := (dC, dI)) S.1 S.2.1 I.2.2.2.1 I.1 3 0 rfl rfl (vp_in_nI hi (by decide)) hdg (by rw [nI_clamp (by omega)]; exact kk)
theorem X_ast3 (S : CallFix p m c cc nL s args lw_gt R_X) (I : X_I dC dI cA a A s H0 H locs (T, Af, Fi, La, St, n, rc, cu)) {i v : Nat} (hi : i < 100) (hdg : decode cc pc = .ok (.iastore, 1)) (kk : ∀ (H1 : Heap) (locs1 : List Loc), X_I dC dI cA a A s H0 H1 locs1 (T, Af, upN Fi i v, La, St, n, rc, cu) → W p l e R s m args below meth c H1 locs1 cells slots Q (F0 m (pc + 1) ls (rest))) : W p l e R s m args below meth c H locs cells slots Q (F0 m pc ls (.int (nI v) :: .int (nI i) :: .ref (a 3) :: rest)) := va_iast (D := (dC, dI)) S.1 S.2.1 I.2.2.2.1 I.1 I.2.1 I.2.2.1 3 0 rfl rfl (vp_in_nI hi (by decide)) hdg (fun H1 locs1 hP hD hS => kk H1 locs1 (by rw [nI_clamp (by omega), nF_up] at hP hD; exact ⟨hP, hD, hS, I.2.2.2⟩))
theorem X_ald4 (S : CallFix p m c cc nL s args lw_gt R_X) (I : X_I dC dI cA a A s H0 H locs (T, Af, Fi, La, St, n, rc, cu)) {i : Nat} (hi : i < 100) (hdg : decode cc pc = .ok (.iaload, 1)) (kk : W p l e R s m args below meth c H locs cells slots Q (F0 m (pc + 1) ls (.int (nI (La i)) :: rest))) : W p l e R s m args below meth c H locs cells slots Q (F0 m pc ls (.int (nI i) :: .ref (a 4) :: rest)) := va_iald (D := (dC, dI)) S.1 S.2.1 I.2.2.2.1 I.1 4 0 rfl rfl (vp_in_nI hi (by decide)) hdg (by rw [nI_clamp (by omega)]; exact kk)
theorem X_ast4 (S : CallFix p m c cc nL s args lw_gt R_X) (I : X_I dC dI cA a A s H0 H locs (T, Af, Fi, La, St, n, rc, cu)) {i v : Nat} (hi : i < 100) (hdg : decode cc pc = .ok (.iastore, 1)) (kk : ∀ (H1 : Heap) (locs1 : List Loc), X_I dC dI cA a A s H0 H1 locs1 (T, Af, Fi, upN La i v, St, n, rc, cu) → W p l e R s m args below meth c H1 locs1 cells slots Q (F0 m (pc + 1) ls (rest))) : W p l e R s m args below meth c H locs cells slots Q (F0 m pc ls (.int (nI v) :: .int (nI i) :: .ref (a 4) :: rest)) := va_iast (D := (dC, dI)) S.1 S.2.1 I.2.2.2.1 I.1 I.2.1 I.2.2.1 4 0 rfl rfl (vp_in_nI hi (by decide)) hdg (fun H1 locs1 hP hD hS => kk H1 locs1 (by rw [nI_clamp (by omega), nF_up] at hP hD; exact ⟨hP, hD, hS, I.2.2.2⟩))
theorem X_ald5 (S : CallFix p m c cc nL s args lw_gt R_X) (I : X_I dC dI cA a A s H0 H locs (T, Af, Fi, La, St, n, rc, cu)) {i : Nat} (hi : i < 100) (hdg : decode cc pc = .ok (.iaload, 1)) (kk : W p l e R s m args below meth c H locs cells slots Q (F0 m (pc + 1) ls (.int (nI (St i)) :: rest))) : W p l e R s m args below meth c H locs cells slots Q (F0 m pc ls (.int (nI i) :: .ref (a 5) :: rest)) := va_iald (D := (dC, dI)) S.1 S.2.1 I.2.2.2.1 I.1 5 0 rfl rfl (vp_in_nI hi (by decide)) hdg (by rw [nI_clamp (by omega)]; exact kk)
theorem X_ast5 (S : CallFix p m c cc nL s args lw_gt R_X) (I : X_I dC dI cA a A s H0 H locs (T, Af, Fi, La, St, n, rc, cu)) {i v : Nat} (hi : i < 100) (hdg : decode cc pc = .ok (.iastore, 1)) (kk : ∀ (H1 : Heap) (locs1 : List Loc), X_I dC dI cA a A s H0 H1 locs1 (T, Af, Fi, La, upN St i v, n, rc, cu) → W p l e R s m args below meth c H1 locs1 cells slots Q (F0 m (pc + 1) ls (rest))) : W p l e R s m args below meth c H locs cells slots Q (F0 m pc ls (.int (nI v) :: .int (nI i) :: .ref (a 5) :: rest)) := va_iast (D := (dC, dI)) S.1 S.2.1 I.2.2.2.1 I.1 I.2.1 I.2.2.1 5 0 rfl rfl (vp_in_nI hi (by decide)) hdg (fun H1 locs1 hP hD hS => kk H1 locs1 (by rw [nI_clamp (by omega), nF_up] at hP hD; exact ⟨hP, hD, hS, I.2.2.2⟩))
theorem X_cw {y : MethodName} {b : ByteArray} {maxL idx nA : Nat} {rt : Option FieldType} {rm : Room} {own : String} (hts : ∀ w ∈ lw_gt, w.before args s = true) (hk : lw_M own idx y b maxL rt) (hd : y.cls = R_X ∧ y.cls ≠ "java/lang/invoke/MethodHandle" ∧ y.cls ≠ "java/lang/invoke/VarHandle" ∧ (parseMethodDescriptor y.desc).map (fun d => d.parameters.length) = some nA) (hrc : rm.cells = 0) (hrs : rm.slots = 0) (hR : rm.frames + 1 ≤ R.frames ∧ 8 + (maxL + 11) + rm.locals ≤ R.locals) : CallW R s args own R_X idx y b maxL rt (Cond.code y b maxL rt :: lw_gt) rm 0 0 nA := by
  refine cwV nA hts ?_ rfl hrc hrs hd hR
  have key : ∀ w ∈ lw_gt, w ∈ lw_gt ∧ ((w.onTables && w.keeps) = true ∨ ∃ ty, w = .arrayClass ty) := fun w hw => ⟨hw, good_of_word (lw_good w hw)⟩
  intro w hw
  refine key w ?_
  obtain ⟨h1, h2, h3, h4, h5⟩ := hk
  rw [← hd.1] at hw
  simp only [wsV, List.cons_append, List.nil_append, List.mem_cons] at hw
  rcases hw with rfl | rfl | rfl | rfl | rfl | hw
  · exact h1
  · exact h2
  · exact h3
  · exact h4
  · exact h5
  · exact hw
theorem X_blind {sz : Nat} {u : XS} {av : List Value} : FrameBlind (va_Pc av (X_pre dC dI cA a sz u)) := fun a U g mk q => by
  obtain ⟨q0, q1, qP, qK, qD⟩ := q
  exact ⟨q0, q1, qP, va_K.moved (u := U) (U := U.calling g mk a) (Vm.Alike.refl U.vm) qK, qD⟩
theorem X_calli {y : MethodName} {b : ByteArray} {maxL idx nA : Nat} {rt : Option FieldType} {rm : Room} (As : List Value) {st : List Value} {u : XS} {post : Int32 → XS → Prop} (S : CallFix p m c cc nL s args lw_gt R_X) (hM : X_Mi l dC dI cA a y b maxL rt rm As u post) (hk : lw_M R_X idx y b maxL rt) (hd : y.cls = R_X ∧ y.cls ≠ "java/lang/invoke/MethodHandle" ∧ y.cls ≠ "java/lang/invoke/VarHandle" ∧ (parseMethodDescriptor y.desc).map (fun d => d.parameters.length) = some nA) (hrc : rm.cells = 0) (hrs : rm.slots = 0) (hR : rm.frames + 1 ≤ R.frames ∧ 8 + (maxL + 11) + rm.locals ≤ R.locals) (I : X_I dC dI cA a A s H0 H locs u) (hn : As.length = nA) (hsz : ls.size = nL) (hst : st = As.reverse ++ .ref (a 0) :: rest) (hW : (rest.map fun v => v.category).sum ≤ 8) (hdg : decode cc pc = .ok (.invokevirtual idx, 3))
    (kk : ∀ (r : Int32) (u' : XS) (H1 : Heap) (locs1 : List Loc), post r u' → X_I dC dI cA a A s H0 H1 locs1 u' → W p l e R s m args below meth c H1 locs1 0 0 Q (F0 m (pc + 3) ls (.int r :: rest))) : W p l e R s m args below meth c H locs 0 0 Q (F0 m pc ls st) := by
  subst hst
  have hFc := va_free (wc := X_w cA a u) I.2.1 I.2.2.1 I.2.2.2.2 [0, 1, 2, 3, 4, 5] rfl
  refine va_calli (va_runV (As := As) (rest := rest) S (hM H.size) (X_cw S.2.2.2.2 hk hd hrc hrs hR) ⟨X_blind, va_recv I.2.2.2.1 I.1 (ci := 0) (q0 := 0) rfl rfl, fun U hU hW => ⟨rfl, by rw [hU], by rw [hU]; exact I.1, va_K.moved hW.alike I.2.2.2.1, I.2.1.weaken (fun _ _ _ _ => trivial)⟩⟩ rfl hn hsz rfl (lv_room hW) hdg ⟨Nat.zero_le _, Nat.zero_le _⟩) I.2.2.1 (fun q _ h => hFc q h) hFc (fun r u' t H1 locs1 ht hvm hw hB hz1 hk1 hS => ?_)
  obtain ⟨hP1, hK1, hD1⟩ := hB
  rw [ht] at hP1
  obtain ⟨hP, hD⟩ := va_join (wr := []) (w1 := X_w cA a u') I.1 I.2.1 [0, 1, 2, 3, 4, 5] [] rfl rfl (by decide) (by decide) hk1 hFc hP1 hD1
  exact kk r u' H1 locs1 hw ⟨hP, hD, hS, I.2.2.2⟩
theorem X_callv {y : MethodName} {b : ByteArray} {maxL idx nA : Nat} {rm : Room} (As : List Value) {st : List Value} {u : XS} {post : XS → Prop} (S : CallFix p m c cc nL s args lw_gt R_X) (hM : X_Mv l dC dI cA a y b maxL rm As u post) (hk : lw_M R_X idx y b maxL none) (hd : y.cls = R_X ∧ y.cls ≠ "java/lang/invoke/MethodHandle" ∧ y.cls ≠ "java/lang/invoke/VarHandle" ∧ (parseMethodDescriptor y.desc).map (fun d => d.parameters.length) = some nA) (hrc : rm.cells = 0) (hrs : rm.slots = 0) (hR : rm.frames + 1 ≤ R.frames ∧ 8 + (maxL + 11) + rm.locals ≤ R.locals) (I : X_I dC dI cA a A s H0 H locs u) (hn : As.length = nA) (hsz : ls.size = nL) (hst : st = As.reverse ++ .ref (a 0) :: rest) (hW : (rest.map fun v => v.category).sum ≤ 8) (hdg : decode cc pc = .ok (.invokevirtual idx, 3))
    (kk : ∀ (u' : XS) (H1 : Heap) (locs1 : List Loc), post u' → X_I dC dI cA a A s H0 H1 locs1 u' → W p l e R s m args below meth c H1 locs1 0 0 Q (F0 m (pc + 3) ls rest)) : W p l e R s m args below meth c H locs 0 0 Q (F0 m pc ls st) := by
  subst hst
  have hFc := va_free (wc := X_w cA a u) I.2.1 I.2.2.1 I.2.2.2.2 [0, 1, 2, 3, 4, 5] rfl
  refine va_callv (va_runV (As := As) (rest := rest) S (hM H.size) (X_cw S.2.2.2.2 hk hd hrc hrs hR) ⟨X_blind, va_recv I.2.2.2.1 I.1 (ci := 0) (q0 := 0) rfl rfl, fun U hU hW => ⟨rfl, by rw [hU], by rw [hU]; exact I.1, va_K.moved hW.alike I.2.2.2.1, I.2.1.weaken (fun _ _ _ _ => trivial)⟩⟩ rfl hn hsz rfl (lv_room hW) hdg ⟨Nat.zero_le _, Nat.zero_le _⟩) I.2.2.1 (fun q _ h => hFc q h) hFc (fun u' t H1 locs1 ht hvm hw hB hz1 hk1 hS => ?_)
  obtain ⟨hP1, hK1, hD1⟩ := hB
  rw [ht] at hP1
  obtain ⟨hP, hD⟩ := va_join (wr := []) (w1 := X_w cA a u') I.1 I.2.1 [0, 1, 2, 3, 4, 5] [] rfl rfl (by decide) (by decide) hk1 hFc hP1 hD1
  exact kk u' H1 locs1 hw ⟨hP, hD, hS, I.2.2.2⟩
end RX
section SX
variable {l : Launch} {dC : Nat → ClassId} {dI : Nat → Nat → Nat} {cA : ClassId} {a : Nat → Nat} {y : MethodName} {b : ByteArray} {maxL : Nat} {rm : Room} {As : List Value} {u : XS}
theorem X_meti {post : Int32 → XS → Prop} (hy : plainName y.cls = true) (hc : y.cls = R_X) (hlen : (lg_sl (.ref (a 0) :: As)).length ≤ maxL)
    (body : ∀ (p : Program) (e : Env) (s : State) (m : MethodId) (args : Array Value) (below : List Frame) (meth : Method) (c : Code) (A : Nat → Prop) (Q : State → Prop), CallFix p m c b maxL s args lw_gt R_X → X_I dC dI cA a A s s.heap s.heap [] u →
      (∀ (v : Int32) (u' : XS) (H : Heap) (locs : List Loc) (ls : Array Slot) (pc : Nat), X_I dC dI cA a A s s.heap H locs u' → decode b pc = .ok (.ireturn, 1) → post v u' → W p l e rm s m args below meth c H locs 0 0 Q (F0 m pc ls [.int v])) →
      ∀ ls : Array Slot, lv_has ls maxL (lv_args 0 (.ref (a 0) :: As)) → W p l e rm s m args below meth c s.heap [] 0 0 Q (F0 m 0 ls [])) : X_Mi l dC dI cA a y b maxL (some .int) rm As u post := by
  intro sz
  refine Met.ofW (cc := b) (maxL := maxL) (ret := some .int) hy rfl ?_
  intro p e s m args below meth c s₁ B hml hv
  obtain ⟨rfl, hsz, hP, hK, hD0⟩ := hv
  have hx := B.exec
  have hb := B.bytes
  have hr := B.returns
  have hts := atoms_spec (ws := Cond.code y b maxL (some .int) :: lw_gt) B.pre
  have hown : s.vm.findClass R_X = some m.cls := by rw [← hc]; exact findClass_of_methodNamed B.named
  have hlocks := B.notSynchronized
  subst hsz
  have hD := hD0.self (sz := s.heap.size)
  generalize hAe : va_A (X_w cA a u) s.heap.size = A at hD ⊢
  have hA : ∀ q : Nat, s.heap.size ≤ q → A q := fun q h => by rw [← hAe]; exact Or.inr h
  have hl := lv_entry (.ref (a 0) :: As) (n := maxL) hlen
  rw [lg_entry_eq]
  refine body p e s m _ below meth c A _ ⟨hx, hb, hml, hown, fun w hw => hts w (List.mem_cons_of_mem _ hw)⟩ ⟨hP, hD, va_S.rf, hK, hA⟩ ?_ _ hl
  intro v u' H locs ls pc I hd hp
  exact W.iret (v := v) hx hb hr (fun t ht hW => ⟨⟨v, u', rfl, hp, by rw [ht]; exact I.1, va_K.moved hW.alike I.2.2.2.1, I.2.1⟩, I.2.2.1.F ht⟩) I.2.2.1.2.2 hd
theorem X_metz {post : Int32 → XS → Prop} (hy : plainName y.cls = true) (hc : y.cls = R_X) (hlen : (lg_sl (.ref (a 0) :: As)).length ≤ maxL)
    (body : ∀ (p : Program) (e : Env) (s : State) (m : MethodId) (args : Array Value) (below : List Frame) (meth : Method) (c : Code) (A : Nat → Prop) (Q : State → Prop), CallFix p m c b maxL s args lw_gt R_X → X_I dC dI cA a A s s.heap s.heap [] u →
      (∀ (v : Nat) (u' : XS) (H : Heap) (locs : List Loc) (ls : Array Slot) (pc : Nat), X_I dC dI cA a A s s.heap H locs u' → decode b pc = .ok (.ireturn, 1) → v ≤ 1 → post (nI v) u' → W p l e rm s m args below meth c H locs 0 0 Q (F0 m pc ls [.int (nI v)])) →
      ∀ ls : Array Slot, lv_has ls maxL (lv_args 0 (.ref (a 0) :: As)) → W p l e rm s m args below meth c s.heap [] 0 0 Q (F0 m 0 ls [])) : X_Mi l dC dI cA a y b maxL (some .boolean) rm As u post := by
  intro sz
  refine Met.ofW (cc := b) (maxL := maxL) (ret := some .boolean) hy rfl ?_
  intro p e s m args below meth c s₁ B hml hv
  obtain ⟨rfl, hsz, hP, hK, hD0⟩ := hv
  have hx := B.exec
  have hb := B.bytes
  have hr := B.returns
  have hts := atoms_spec (ws := Cond.code y b maxL (some .boolean) :: lw_gt) B.pre
  have hown : s.vm.findClass R_X = some m.cls := by rw [← hc]; exact findClass_of_methodNamed B.named
  have hlocks := B.notSynchronized
  subst hsz
  have hD := hD0.self (sz := s.heap.size)
  generalize hAe : va_A (X_w cA a u) s.heap.size = A at hD ⊢
  have hA : ∀ q : Nat, s.heap.size ≤ q → A q := fun q h => by rw [← hAe]; exact Or.inr h
  have hl := lv_entry (.ref (a 0) :: As) (n := maxL) hlen
  rw [lg_entry_eq]
  refine body p e s m _ below meth c A _ ⟨hx, hb, hml, hown, fun w hw => hts w (List.mem_cons_of_mem _ hw)⟩ ⟨hP, hD, va_S.rf, hK, hA⟩ ?_ _ hl
  intro v u' H locs ls pc I hd hv1 hp
  exact W.zret (v := nI v) hx hb hr (by rcases (show v = 0 ∨ v = 1 by omega) with rfl | rfl <;> rfl) (fun t ht hW => ⟨⟨nI v, u', rfl, hp, by rw [ht]; exact I.1, va_K.moved hW.alike I.2.2.2.1, I.2.1⟩, I.2.2.1.F ht⟩) I.2.2.1.2.2 hd
theorem X_metv {post : XS → Prop} (hy : plainName y.cls = true) (hc : y.cls = R_X) (hlen : (lg_sl (.ref (a 0) :: As)).length ≤ maxL)
    (body : ∀ (p : Program) (e : Env) (s : State) (m : MethodId) (args : Array Value) (below : List Frame) (meth : Method) (c : Code) (A : Nat → Prop) (Q : State → Prop), CallFix p m c b maxL s args lw_gt R_X → X_I dC dI cA a A s s.heap s.heap [] u →
      (∀ (u' : XS) (H : Heap) (locs : List Loc) (ls : Array Slot) (pc : Nat), X_I dC dI cA a A s s.heap H locs u' → decode b pc = .ok (.return_, 1) → post u' → W p l e rm s m args below meth c H locs 0 0 Q (F0 m pc ls [])) →
      ∀ ls : Array Slot, lv_has ls maxL (lv_args 0 (.ref (a 0) :: As)) → W p l e rm s m args below meth c s.heap [] 0 0 Q (F0 m 0 ls [])) : X_Mv l dC dI cA a y b maxL rm As u post := by
  intro sz
  refine Met.ofW (cc := b) (maxL := maxL) (ret := none) hy rfl ?_
  intro p e s m args below meth c s₁ B hml hv
  obtain ⟨rfl, hsz, hP, hK, hD0⟩ := hv
  have hx := B.exec
  have hb := B.bytes
  have hr := B.returns
  have hts := atoms_spec (ws := Cond.code y b maxL none :: lw_gt) B.pre
  have hown : s.vm.findClass R_X = some m.cls := by rw [← hc]; exact findClass_of_methodNamed B.named
  have hlocks := B.notSynchronized
  subst hsz
  have hD := hD0.self (sz := s.heap.size)
  generalize hAe : va_A (X_w cA a u) s.heap.size = A at hD ⊢
  have hA : ∀ q : Nat, s.heap.size ≤ q → A q := fun q h => by rw [← hAe]; exact Or.inr h
  have hl := lv_entry (.ref (a 0) :: As) (n := maxL) hlen
  rw [lg_entry_eq]
  refine body p e s m _ below meth c A _ ⟨hx, hb, hml, hown, fun w hw => hts w (List.mem_cons_of_mem _ hw)⟩ ⟨hP, hD, va_S.rf, hK, hA⟩ ?_ _ hl
  intro u' H locs ls pc I hd hp
  exact W.vret hx hb hr (fun t ht hW => ⟨⟨u', rfl, hp, by rw [ht]; exact I.1, va_K.moved hW.alike I.2.2.2.1, I.2.1⟩, I.2.2.1.F ht⟩) I.2.2.1.2.2 hd
end SX
abbrev MS : Type := (Nat → Nat) × (Nat → Nat) × (Nat → Nat) × (Nat → Nat) × (Nat → Nat) × Nat × Nat
abbrev M_w (cA : ClassId) (a : Nat → Nat) (u : MS) : va_W := [(a 0, .inr (1, [.int (nI u.2.2.2.2.2.1), .ref (a 1), .ref (a 2), .int (nI u.2.2.2.2.2.2), .ref (a 3), .ref (a 4), .ref (a 5)])), (a 1, .inl (cA, 48, .inl (nF u.1))), (a 2, .inl (cA, 48, .inl (nF u.2.1))), (a 3, .inl (cA, 96, .inl (nF u.2.2.1))), (a 4, .inl (cA, 96, .inl (nF u.2.2.2.1))), (a 5, .inl (cA, 96, .inl (nF u.2.2.2.2.1)))]
def M_I (dC : Nat → ClassId) (dI : Nat → Nat → Nat) (cA : ClassId) (a : Nat → Nat) (A : Nat → Prop) (s : State) (H0 H : Heap) (locs : List Loc) (u : MS) : Prop := va_P (dC, dI) classes (M_w cA a u) H ∧ va_D A (M_w cA a u) ∧ va_S A H0 H locs ∧ va_K (dC, dI) classes [(cA, .int)] s ∧ ∀ q : Nat, H0.size ≤ q → A q
abbrev M_at (dC : Nat → ClassId) (dI : Nat → Nat → Nat) (cA : ClassId) (a : Nat → Nat) (A : Nat → Prop) (u : MS) (t : State) : Prop := va_P (dC, dI) classes (M_w cA a u) t.heap ∧ va_K (dC, dI) classes [(cA, .int)] t ∧ va_D A (M_w cA a u)
abbrev M_pre (dC : Nat → ClassId) (dI : Nat → Nat → Nat) (cA : ClassId) (a : Nat → Nat) (sz : Nat) (u : MS) (U : State) : Prop := U.heap.size = sz ∧ va_P (dC, dI) classes (M_w cA a u) U.heap ∧ va_K (dC, dI) classes [(cA, .int)] U ∧ va_D (fun _ => True) (M_w cA a u)
/-- a method's contract: an int or a boolean comes back -/
def M_Mi (l : Launch) (dC : Nat → ClassId) (dI : Nat → Nat → Nat) (cA : ClassId) (a : Nat → Nat) (y : MethodName) (b : ByteArray) (maxL : Nat) (rt : Option FieldType) (rm : Room) (As : List Value) (u : MS) (post : Int32 → MS → Prop) : Prop := ∀ sz : Nat, Met l y (Cond.code y b maxL rt :: lw_gt) rm (va_Pc (.ref (a 0) :: As) (M_pre dC dI cA a sz u)) (va_Qi post (M_at dC dI cA a (va_A (M_w cA a u) sz)) (va_A (M_w cA a u) sz)) 0 0 (va_A (M_w cA a u) sz)
/-- a method's contract: nothing comes back -/
def M_Mv (l : Launch) (dC : Nat → ClassId) (dI : Nat → Nat → Nat) (cA : ClassId) (a : Nat → Nat) (y : MethodName) (b : ByteArray) (maxL : Nat) (rm : Room) (As : List Value) (u : MS) (post : MS → Prop) : Prop := ∀ sz : Nat, Met l y (Cond.code y b maxL none :: lw_gt) rm (va_Pc (.ref (a 0) :: As) (M_pre dC dI cA a sz u)) (va_Qv post (M_at dC dI cA a (va_A (M_w cA a u) sz)) (va_A (M_w cA a u) sz)) 0 0 (va_A (M_w cA a u) sz)
section RM
variable {p : Program} {l : Launch} {e : Env} {R : Room} {s : State} {m : MethodId} {args : Array Value} {below : List Frame} {meth : Method} {c : Code} {H H0 : Heap} {locs : List Loc} {cells slots nL : Nat} {Q : State → Prop}
variable {cc : ByteArray} {pc : Nat} {ls : Array Slot} {rest : List Value} {dC : Nat → ClassId} {dI : Nat → Nat → Nat} {cA : ClassId} {a : Nat → Nat} {A : Nat → Prop} {T Cp Fi La Le : Nat → Nat} {n fo : Nat}
theorem M_get_length (S : CallFix p m c cc nL s args lw_gt R_M) (I : M_I dC dI cA a A s H0 H locs (T, Cp, Fi, La, Le, n, fo)) (hdg : decode cc pc = .ok (.getfield 25, 3)) (kk : W p l e R s m args below meth c H locs cells slots Q (F0 m (pc + 3) ls (.int (nI n) :: rest))) : W p l e R s m args below meth c H locs cells slots Q (F0 m pc ls (.ref (a 0) :: rest)) := va_get (D := (dC, dI)) (ci := 1) (v := .int (nI n)) (C := R_M) (T := F_M) (N := 7) S.1 S.2.1 S.2.2.2.2 i_M S.2.2.2.1 I.2.2.2.1 I.1 0 rfl rfl 0 (by decide) (S.2.2.2.2 _ fl_M_length) (fun _ h => h) rfl hdg kk
theorem M_get_text (S : CallFix p m c cc nL s args lw_gt R_M) (I : M_I dC dI cA a A s H0 H locs (T, Cp, Fi, La, Le, n, fo)) (hdg : decode cc pc = .ok (.getfield 7, 3)) (kk : W p l e R s m args below meth c H locs cells slots Q (F0 m (pc + 3) ls (.ref (a 1) :: rest))) : W p l e R s m args below meth c H locs cells slots Q (F0 m pc ls (.ref (a 0) :: rest)) := va_get (D := (dC, dI)) (ci := 1) (v := .ref (a 1)) (C := R_M) (T := F_M) (N := 7) S.1 S.2.1 S.2.2.2.2 i_M S.2.2.2.1 I.2.2.2.1 I.1 0 rfl rfl 1 (by decide) (S.2.2.2.2 _ fl_M_text) (fun _ h => h) rfl hdg kk
theorem M_get_copy (S : CallFix p m c cc nL s args lw_gt R_M) (I : M_I dC dI cA a A s H0 H locs (T, Cp, Fi, La, Le, n, fo)) (hdg : decode cc pc = .ok (.getfield 13, 3)) (kk : W p l e R s m args below meth c H locs cells slots Q (F0 m (pc + 3) ls (.ref (a 2) :: rest))) : W p l e R s m args below meth c H locs cells slots Q (F0 m pc ls (.ref (a 0) :: rest)) := va_get (D := (dC, dI)) (ci := 1) (v := .ref (a 2)) (C := R_M) (T := F_M) (N := 7) S.1 S.2.1 S.2.2.2.2 i_M S.2.2.2.1 I.2.2.2.1 I.1 0 rfl rfl 2 (by decide) (S.2.2.2.2 _ fl_M_copy) (fun _ h => h) rfl hdg kk
theorem M_get_found (S : CallFix p m c cc nL s args lw_gt R_M) (I : M_I dC dI cA a A s H0 H locs (T, Cp, Fi, La, Le, n, fo)) (hdg : decode cc pc = .ok (.getfield 41, 3)) (kk : W p l e R s m args below meth c H locs cells slots Q (F0 m (pc + 3) ls (.int (nI fo) :: rest))) : W p l e R s m args below meth c H locs cells slots Q (F0 m pc ls (.ref (a 0) :: rest)) := va_get (D := (dC, dI)) (ci := 1) (v := .int (nI fo)) (C := R_M) (T := F_M) (N := 7) S.1 S.2.1 S.2.2.2.2 i_M S.2.2.2.1 I.2.2.2.1 I.1 0 rfl rfl 3 (by decide) (S.2.2.2.2 _ fl_M_found) (fun _ h => h) rfl hdg kk
theorem M_get_first (S : CallFix p m c cc nL s args lw_gt R_M) (I : M_I dC dI cA a A s H0 H locs (T, Cp, Fi, La, Le, n, fo)) (hdg : decode cc pc = .ok (.getfield 16, 3)) (kk : W p l e R s m args below meth c H locs cells slots Q (F0 m (pc + 3) ls (.ref (a 3) :: rest))) : W p l e R s m args below meth c H locs cells slots Q (F0 m pc ls (.ref (a 0) :: rest)) := va_get (D := (dC, dI)) (ci := 1) (v := .ref (a 3)) (C := R_M) (T := F_M) (N := 7) S.1 S.2.1 S.2.2.2.2 i_M S.2.2.2.1 I.2.2.2.1 I.1 0 rfl rfl 4 (by decide) (S.2.2.2.2 _ fl_M_first) (fun _ h => h) rfl hdg kk
theorem M_get_last (S : CallFix p m c cc nL s args lw_gt R_M) (I : M_I dC dI cA a A s H0 H locs (T, Cp, Fi, La, Le, n, fo)) (hdg : decode cc pc = .ok (.getfield 19, 3)) (kk : W p l e R s m args below meth c H locs cells slots Q (F0 m (pc + 3) ls (.ref (a 4) :: rest))) : W p l e R s m args below meth c H locs cells slots Q (F0 m pc ls (.ref (a 0) :: rest)) := va_get (D := (dC, dI)) (ci := 1) (v := .ref (a 4)) (C := R_M) (T := F_M) (N := 7) S.1 S.2.1 S.2.2.2.2 i_M S.2.2.2.1 I.2.2.2.1 I.1 0 rfl rfl 5 (by decide) (S.2.2.2.2 _ fl_M_last) (fun _ h => h) rfl hdg kk
theorem M_get_least (S : CallFix p m c cc nL s args lw_gt R_M) (I : M_I dC dI cA a A s H0 H locs (T, Cp, Fi, La, Le, n, fo)) (hdg : decode cc pc = .ok (.getfield 22, 3)) (kk : W p l e R s m args below meth c H locs cells slots Q (F0 m (pc + 3) ls (.ref (a 5) :: rest))) : W p l e R s m args below meth c H locs cells slots Q (F0 m pc ls (.ref (a 0) :: rest)) := va_get (D := (dC, dI)) (ci := 1) (v := .ref (a 5)) (C := R_M) (T := F_M) (N := 7) S.1 S.2.1 S.2.2.2.2 i_M S.2.2.2.1 I.2.2.2.1 I.1 0 rfl rfl 6 (by decide) (S.2.2.2.2 _ fl_M_least) (fun _ h => h) rfl hdg kk
theorem M_put_length (S : CallFix p m c cc nL s args lw_gt R_M) (I : M_I dC dI cA a A s H0 H locs (T, Cp, Fi, La, Le, n, fo)) {v : Nat} (hdg : decode cc pc = .ok (.putfield 25, 3)) (kk : ∀ (H1 : Heap) (locs1 : List Loc), M_I dC dI cA a A s H0 H1 locs1 (T, Cp, Fi, La, Le, v, fo) → W p l e R s m args below meth c H1 locs1 cells slots Q (F0 m (pc + 3) ls (rest))) : W p l e R s m args below meth c H locs cells slots Q (F0 m pc ls (.int (nI v) :: .ref (a 0) :: rest)) := va_put (D := (dC, dI)) (ci := 1) (v := .int (nI v)) (ty := .int) (C := R_M) (T := F_M) (N := 7) S.1 S.2.1 S.2.2.2.2 i_M t_M t_M_ok n_M S.2.2.2.1 I.2.2.2.1 I.1 I.2.1 I.2.2.1 0 rfl rfl 0 (by decide) (S.2.2.2.2 _ fl_M_length) (fun _ h => h) rfl (by decide +kernel) rfl rfl (Nat.le_of_ble_eq_true rfl) hdg (fun H1 locs1 hP hD hS => kk H1 locs1 ⟨hP, hD, hS, I.2.2.2⟩)
theorem M_put_found (S : CallFix p m c cc nL s args lw_gt R_M) (I : M_I dC dI cA a A s H0 H locs (T, Cp, Fi, La, Le, n, fo)) {v : Nat} (hdg : decode cc pc = .ok (.putfield 41, 3)) (kk : ∀ (H1 : Heap) (locs1 : List Loc), M_I dC dI cA a A s H0 H1 locs1 (T, Cp, Fi, La, Le, n, v) → W p l e R s m args below meth c H1 locs1 cells slots Q (F0 m (pc + 3) ls (rest))) : W p l e R s m args below meth c H locs cells slots Q (F0 m pc ls (.int (nI v) :: .ref (a 0) :: rest)) := va_put (D := (dC, dI)) (ci := 1) (v := .int (nI v)) (ty := .int) (C := R_M) (T := F_M) (N := 7) S.1 S.2.1 S.2.2.2.2 i_M t_M t_M_ok n_M S.2.2.2.1 I.2.2.2.1 I.1 I.2.1 I.2.2.1 0 rfl rfl 3 (by decide) (S.2.2.2.2 _ fl_M_found) (fun _ h => h) rfl (by decide +kernel) rfl rfl (Nat.le_of_ble_eq_true rfl) hdg (fun H1 locs1 hP hD hS => kk H1 locs1 ⟨hP, hD, hS, I.2.2.2⟩)
theorem M_ald1 (S : CallFix p m c cc nL s args lw_gt R_M) (I : M_I dC dI cA a A s H0 H locs (T, Cp, Fi, La, Le, n, fo)) {i : Nat} (hi : i < 48) (hdg : decode cc pc = .ok (.iaload, 1)) (kk : W p l e R s m args below meth c H locs cells slots Q (F0 m (pc + 1) ls (.int (nI (T i)) :: rest))) : W p l e R s m args below meth c H locs cells slots Q (F0 m pc ls (.int (nI i) :: .ref (a 1) :: rest)) := va_iald (D := (dC, dI)) S.1 S.2.1 I.2.2.2.1 I.1 1 0 rfl rfl (vp_in_nI hi (by decide)) hdg (by rw [nI_clamp (by omega)]; exact kk)
theorem M_ast1 (S : CallFix p m c cc nL s args lw_gt R_M) (I : M_I dC dI cA a A s H0 H locs (T, Cp, Fi, La, Le, n, fo)) {i v : Nat} (hi : i < 48) (hdg : decode cc pc = .ok (.iastore, 1)) (kk : ∀ (H1 : Heap) (locs1 : List Loc), M_I dC dI cA a A s H0 H1 locs1 (upN T i v, Cp, Fi, La, Le, n, fo) → W p l e R s m args below meth c H1 locs1 cells slots Q (F0 m (pc + 1) ls (rest))) : W p l e R s m args below meth c H locs cells slots Q (F0 m pc ls (.int (nI v) :: .int (nI i) :: .ref (a 1) :: rest)) := va_iast (D := (dC, dI)) S.1 S.2.1 I.2.2.2.1 I.1 I.2.1 I.2.2.1 1 0 rfl rfl (vp_in_nI hi (by decide)) hdg (fun H1 locs1 hP hD hS => kk H1 locs1 (by rw [nI_clamp (by omega), nF_up] at hP hD; exact ⟨hP, hD, hS, I.2.2.2⟩))
theorem M_ald2 (S : CallFix p m c cc nL s args lw_gt R_M) (I : M_I dC dI cA a A s H0 H locs (T, Cp, Fi, La, Le, n, fo)) {i : Nat} (hi : i < 48) (hdg : decode cc pc = .ok (.iaload, 1)) (kk : W p l e R s m args below meth c H locs cells slots Q (F0 m (pc + 1) ls (.int (nI (Cp i)) :: rest))) : W p l e R s m args below meth c H locs cells slots Q (F0 m pc ls (.int (nI i) :: .ref (a 2) :: rest)) := va_iald (D := (dC, dI)) S.1 S.2.1 I.2.2.2.1 I.1 2 0 rfl rfl (vp_in_nI hi (by decide)) hdg (by rw [nI_clamp (by omega)]; exact kk)
theorem M_ast2 (S : CallFix p m c cc nL s args lw_gt R_M) (I : M_I dC dI cA a A s H0 H locs (T, Cp, Fi, La, Le, n, fo)) {i v : Nat} (hi : i < 48) (hdg : decode cc pc = .ok (.iastore, 1)) (kk : ∀ (H1 : Heap) (locs1 : List Loc), M_I dC dI cA a A s H0 H1 locs1 (T, upN Cp i v, Fi, La, Le, n, fo) → W p l e R s m args below meth c H1 locs1 cells slots Q (F0 m (pc + 1) ls (rest))) : W p l e R s m args below meth c H locs cells slots Q (F0 m pc ls (.int (nI v) :: .int (nI i) :: .ref (a 2) :: rest)) := va_iast (D := (dC, dI)) S.1 S.2.1 I.2.2.2.1 I.1 I.2.1 I.2.2.1 2 0 rfl rfl (vp_in_nI hi (by decide)) hdg (fun H1 locs1 hP hD hS => kk H1 locs1 (by rw [nI_clamp (by omega), nF_up] at hP hD; exact ⟨hP, hD, hS, I.2.2.2⟩))
theorem M_ald3 (S : CallFix p m c cc nL s args lw_gt R_M) (I : M_I dC dI cA a A s H0 H locs (T, Cp, Fi, La, Le, n, fo)) {i : Nat} (hi : i < 96) (hdg : decode cc pc = .ok (.iaload, 1)) (kk : W p l e R s m args below meth c H locs cells slots Q (F0 m (pc + 1) ls (.int (nI (Fi i)) :: rest))) : W p l e R s m args below meth c H locs cells slots Q (F0 m pc ls (.int (nI i) :: .ref (a 3) :: rest)) := va_iald (D := (dC, dI)) S.1 S.2.1 I.2.2.2.1 I.1 3 0 rfl rfl (vp_in_nI hi (by decide)) hdg (by rw [nI_clamp (by omega)]; exact kk)
theorem M_ast3 (S : CallFix p m c cc nL s args lw_gt R_M) (I : M_I dC dI cA a A s H0 H locs (T, Cp, Fi, La, Le, n, fo)) {i v : Nat} (hi : i < 96) (hdg : decode cc pc = .ok (.iastore, 1)) (kk : ∀ (H1 : Heap) (locs1 : List Loc), M_I dC dI cA a A s H0 H1 locs1 (T, Cp, upN Fi i v, La, Le, n, fo) → W p l e R s m args below meth c H1 locs1 cells slots Q (F0 m (pc + 1) ls (rest))) : W p l e R s m args below meth c H locs cells slots Q (F0 m pc ls (.int (nI v) :: .int (nI i) :: .ref (a 3) :: rest)) := va_iast (D := (dC, dI)) S.1 S.2.1 I.2.2.2.1 I.1 I.2.1 I.2.2.1 3 0 rfl rfl (vp_in_nI hi (by decide)) hdg (fun H1 locs1 hP hD hS => kk H1 locs1 (by rw [nI_clamp (by omega), nF_up] at hP hD; exact ⟨hP, hD, hS, I.2.2.2⟩))
theorem M_ald4 (S : CallFix p m c cc nL s args lw_gt R_M) (I : M_I dC dI cA a A s H0 H locs (T, Cp, Fi, La, Le, n, fo)) {i : Nat} (hi : i < 96) (hdg : decode cc pc = .ok (.iaload, 1)) (kk : W p l e R s m args below meth c H locs cells slots Q (F0 m (pc + 1) ls (.int (nI (La i)) :: rest))) : W p l e R s m args below meth c H locs cells slots Q (F0 m pc ls (.int (nI i) :: .ref (a 4) :: rest)) := va_iald (D := (dC, dI)) S.1 S.2.1 I.2.2.2.1 I.1 4 0 rfl rfl (vp_in_nI hi (by decide)) hdg (by rw [nI_clamp (by omega)]; exact kk)
theorem M_ast4 (S : CallFix p m c cc nL s args lw_gt R_M) (I : M_I dC dI cA a A s H0 H locs (T, Cp, Fi, La, Le, n, fo)) {i v : Nat} (hi : i < 96) (hdg : decode cc pc = .ok (.iastore, 1)) (kk : ∀ (H1 : Heap) (locs1 : List Loc), M_I dC dI cA a A s H0 H1 locs1 (T, Cp, Fi, upN La i v, Le, n, fo) → W p l e R s m args below meth c H1 locs1 cells slots Q (F0 m (pc + 1) ls (rest))) : W p l e R s m args below meth c H locs cells slots Q (F0 m pc ls (.int (nI v) :: .int (nI i) :: .ref (a 4) :: rest)) := va_iast (D := (dC, dI)) S.1 S.2.1 I.2.2.2.1 I.1 I.2.1 I.2.2.1 4 0 rfl rfl (vp_in_nI hi (by decide)) hdg (fun H1 locs1 hP hD hS => kk H1 locs1 (by rw [nI_clamp (by omega), nF_up] at hP hD; exact ⟨hP, hD, hS, I.2.2.2⟩))
theorem M_ald5 (S : CallFix p m c cc nL s args lw_gt R_M) (I : M_I dC dI cA a A s H0 H locs (T, Cp, Fi, La, Le, n, fo)) {i : Nat} (hi : i < 96) (hdg : decode cc pc = .ok (.iaload, 1)) (kk : W p l e R s m args below meth c H locs cells slots Q (F0 m (pc + 1) ls (.int (nI (Le i)) :: rest))) : W p l e R s m args below meth c H locs cells slots Q (F0 m pc ls (.int (nI i) :: .ref (a 5) :: rest)) := va_iald (D := (dC, dI)) S.1 S.2.1 I.2.2.2.1 I.1 5 0 rfl rfl (vp_in_nI hi (by decide)) hdg (by rw [nI_clamp (by omega)]; exact kk)
theorem M_ast5 (S : CallFix p m c cc nL s args lw_gt R_M) (I : M_I dC dI cA a A s H0 H locs (T, Cp, Fi, La, Le, n, fo)) {i v : Nat} (hi : i < 96) (hdg : decode cc pc = .ok (.iastore, 1)) (kk : ∀ (H1 : Heap) (locs1 : List Loc), M_I dC dI cA a A s H0 H1 locs1 (T, Cp, Fi, La, upN Le i v, n, fo) → W p l e R s m args below meth c H1 locs1 cells slots Q (F0 m (pc + 1) ls (rest))) : W p l e R s m args below meth c H locs cells slots Q (F0 m pc ls (.int (nI v) :: .int (nI i) :: .ref (a 5) :: rest)) := va_iast (D := (dC, dI)) S.1 S.2.1 I.2.2.2.1 I.1 I.2.1 I.2.2.1 5 0 rfl rfl (vp_in_nI hi (by decide)) hdg (fun H1 locs1 hP hD hS => kk H1 locs1 (by rw [nI_clamp (by omega), nF_up] at hP hD; exact ⟨hP, hD, hS, I.2.2.2⟩))
theorem M_cw {y : MethodName} {b : ByteArray} {maxL idx nA : Nat} {rt : Option FieldType} {rm : Room} {own : String} (hts : ∀ w ∈ lw_gt, w.before args s = true) (hk : lw_M own idx y b maxL rt) (hd : y.cls = R_M ∧ y.cls ≠ "java/lang/invoke/MethodHandle" ∧ y.cls ≠ "java/lang/invoke/VarHandle" ∧ (parseMethodDescriptor y.desc).map (fun d => d.parameters.length) = some nA) (hrc : rm.cells = 0) (hrs : rm.slots = 0) (hR : rm.frames + 1 ≤ R.frames ∧ 8 + (maxL + 11) + rm.locals ≤ R.locals) : CallW R s args own R_M idx y b maxL rt (Cond.code y b maxL rt :: lw_gt) rm 0 0 nA := by
  refine cwV nA hts ?_ rfl hrc hrs hd hR
  have key : ∀ w ∈ lw_gt, w ∈ lw_gt ∧ ((w.onTables && w.keeps) = true ∨ ∃ ty, w = .arrayClass ty) := fun w hw => ⟨hw, good_of_word (lw_good w hw)⟩
  intro w hw
  refine key w ?_
  obtain ⟨h1, h2, h3, h4, h5⟩ := hk
  rw [← hd.1] at hw
  simp only [wsV, List.cons_append, List.nil_append, List.mem_cons] at hw
  rcases hw with rfl | rfl | rfl | rfl | rfl | hw
  · exact h1
  · exact h2
  · exact h3
  · exact h4
  · exact h5
  · exact hw
theorem M_blind {sz : Nat} {u : MS} {av : List Value} : FrameBlind (va_Pc av (M_pre dC dI cA a sz u)) := fun a U g mk q => by
  obtain ⟨q0, q1, qP, qK, qD⟩ := q
  exact ⟨q0, q1, qP, va_K.moved (u := U) (U := U.calling g mk a) (Vm.Alike.refl U.vm) qK, qD⟩
theorem M_calli {y : MethodName} {b : ByteArray} {maxL idx nA : Nat} {rt : Option FieldType} {rm : Room} (As : List Value) {st : List Value} {u : MS} {post : Int32 → MS → Prop} (S : CallFix p m c cc nL s args lw_gt R_M) (hM : M_Mi l dC dI cA a y b maxL rt rm As u post) (hk : lw_M R_M idx y b maxL rt) (hd : y.cls = R_M ∧ y.cls ≠ "java/lang/invoke/MethodHandle" ∧ y.cls ≠ "java/lang/invoke/VarHandle" ∧ (parseMethodDescriptor y.desc).map (fun d => d.parameters.length) = some nA) (hrc : rm.cells = 0) (hrs : rm.slots = 0) (hR : rm.frames + 1 ≤ R.frames ∧ 8 + (maxL + 11) + rm.locals ≤ R.locals) (I : M_I dC dI cA a A s H0 H locs u) (hn : As.length = nA) (hsz : ls.size = nL) (hst : st = As.reverse ++ .ref (a 0) :: rest) (hW : (rest.map fun v => v.category).sum ≤ 8) (hdg : decode cc pc = .ok (.invokevirtual idx, 3))
    (kk : ∀ (r : Int32) (u' : MS) (H1 : Heap) (locs1 : List Loc), post r u' → M_I dC dI cA a A s H0 H1 locs1 u' → W p l e R s m args below meth c H1 locs1 0 0 Q (F0 m (pc + 3) ls (.int r :: rest))) : W p l e R s m args below meth c H locs 0 0 Q (F0 m pc ls st) := by
  subst hst
  have hFc := va_free (wc := M_w cA a u) I.2.1 I.2.2.1 I.2.2.2.2 [0, 1, 2, 3, 4, 5] rfl
  refine va_calli (va_runV (As := As) (rest := rest) S (hM H.size) (M_cw S.2.2.2.2 hk hd hrc hrs hR) ⟨M_blind, va_recv I.2.2.2.1 I.1 (ci := 1) (q0 := 0) rfl rfl, fun U hU hW => ⟨rfl, by rw [hU], by rw [hU]; exact I.1, va_K.moved hW.alike I.2.2.2.1, I.2.1.weaken (fun _ _ _ _ => trivial)⟩⟩ rfl hn hsz rfl (lv_room hW) hdg ⟨Nat.zero_le _, Nat.zero_le _⟩) I.2.2.1 (fun q _ h => hFc q h) hFc (fun r u' t H1 locs1 ht hvm hw hB hz1 hk1 hS => ?_)
  obtain ⟨hP1, hK1, hD1⟩ := hB
  rw [ht] at hP1
  obtain ⟨hP, hD⟩ := va_join (wr := []) (w1 := M_w cA a u') I.1 I.2.1 [0, 1, 2, 3, 4, 5] [] rfl rfl (by decide) (by decide) hk1 hFc hP1 hD1
  exact kk r u' H1 locs1 hw ⟨hP, hD, hS, I.2.2.2⟩
theorem M_callv {y : MethodName} {b : ByteArray} {maxL idx nA : Nat} {rm : Room} (As : List Value) {st : List Value} {u : MS} {post : MS → Prop} (S : CallFix p m c cc nL s args lw_gt R_M) (hM : M_Mv l dC dI cA a y b maxL rm As u post) (hk : lw_M R_M idx y b maxL none) (hd : y.cls = R_M ∧ y.cls ≠ "java/lang/invoke/MethodHandle" ∧ y.cls ≠ "java/lang/invoke/VarHandle" ∧ (parseMethodDescriptor y.desc).map (fun d => d.parameters.length) = some nA) (hrc : rm.cells = 0) (hrs : rm.slots = 0) (hR : rm.frames + 1 ≤ R.frames ∧ 8 + (maxL + 11) + rm.locals ≤ R.locals) (I : M_I dC dI cA a A s H0 H locs u) (hn : As.length = nA) (hsz : ls.size = nL) (hst : st = As.reverse ++ .ref (a 0) :: rest) (hW : (rest.map fun v => v.category).sum ≤ 8) (hdg : decode cc pc = .ok (.invokevirtual idx, 3))
    (kk : ∀ (u' : MS) (H1 : Heap) (locs1 : List Loc), post u' → M_I dC dI cA a A s H0 H1 locs1 u' → W p l e R s m args below meth c H1 locs1 0 0 Q (F0 m (pc + 3) ls rest)) : W p l e R s m args below meth c H locs 0 0 Q (F0 m pc ls st) := by
  subst hst
  have hFc := va_free (wc := M_w cA a u) I.2.1 I.2.2.1 I.2.2.2.2 [0, 1, 2, 3, 4, 5] rfl
  refine va_callv (va_runV (As := As) (rest := rest) S (hM H.size) (M_cw S.2.2.2.2 hk hd hrc hrs hR) ⟨M_blind, va_recv I.2.2.2.1 I.1 (ci := 1) (q0 := 0) rfl rfl, fun U hU hW => ⟨rfl, by rw [hU], by rw [hU]; exact I.1, va_K.moved hW.alike I.2.2.2.1, I.2.1.weaken (fun _ _ _ _ => trivial)⟩⟩ rfl hn hsz rfl (lv_room hW) hdg ⟨Nat.zero_le _, Nat.zero_le _⟩) I.2.2.1 (fun q _ h => hFc q h) hFc (fun u' t H1 locs1 ht hvm hw hB hz1 hk1 hS => ?_)
  obtain ⟨hP1, hK1, hD1⟩ := hB
  rw [ht] at hP1
  obtain ⟨hP, hD⟩ := va_join (wr := []) (w1 := M_w cA a u') I.1 I.2.1 [0, 1, 2, 3, 4, 5] [] rfl rfl (by decide) (by decide) hk1 hFc hP1 hD1
  exact kk u' H1 locs1 hw ⟨hP, hD, hS, I.2.2.2⟩
end RM
section SM
variable {l : Launch} {dC : Nat → ClassId} {dI : Nat → Nat → Nat} {cA : ClassId} {a : Nat → Nat} {y : MethodName} {b : ByteArray} {maxL : Nat} {rm : Room} {As : List Value} {u : MS}
theorem M_meti {post : Int32 → MS → Prop} (hy : plainName y.cls = true) (hc : y.cls = R_M) (hlen : (lg_sl (.ref (a 0) :: As)).length ≤ maxL)
    (body : ∀ (p : Program) (e : Env) (s : State) (m : MethodId) (args : Array Value) (below : List Frame) (meth : Method) (c : Code) (A : Nat → Prop) (Q : State → Prop), CallFix p m c b maxL s args lw_gt R_M → M_I dC dI cA a A s s.heap s.heap [] u →
      (∀ (v : Int32) (u' : MS) (H : Heap) (locs : List Loc) (ls : Array Slot) (pc : Nat), M_I dC dI cA a A s s.heap H locs u' → decode b pc = .ok (.ireturn, 1) → post v u' → W p l e rm s m args below meth c H locs 0 0 Q (F0 m pc ls [.int v])) →
      ∀ ls : Array Slot, lv_has ls maxL (lv_args 0 (.ref (a 0) :: As)) → W p l e rm s m args below meth c s.heap [] 0 0 Q (F0 m 0 ls [])) : M_Mi l dC dI cA a y b maxL (some .int) rm As u post := by
  intro sz
  refine Met.ofW (cc := b) (maxL := maxL) (ret := some .int) hy rfl ?_
  intro p e s m args below meth c s₁ B hml hv
  obtain ⟨rfl, hsz, hP, hK, hD0⟩ := hv
  have hx := B.exec
  have hb := B.bytes
  have hr := B.returns
  have hts := atoms_spec (ws := Cond.code y b maxL (some .int) :: lw_gt) B.pre
  have hown : s.vm.findClass R_M = some m.cls := by rw [← hc]; exact findClass_of_methodNamed B.named
  have hlocks := B.notSynchronized
  subst hsz
  have hD := hD0.self (sz := s.heap.size)
  generalize hAe : va_A (M_w cA a u) s.heap.size = A at hD ⊢
  have hA : ∀ q : Nat, s.heap.size ≤ q → A q := fun q h => by rw [← hAe]; exact Or.inr h
  have hl := lv_entry (.ref (a 0) :: As) (n := maxL) hlen
  rw [lg_entry_eq]
  refine body p e s m _ below meth c A _ ⟨hx, hb, hml, hown, fun w hw => hts w (List.mem_cons_of_mem _ hw)⟩ ⟨hP, hD, va_S.rf, hK, hA⟩ ?_ _ hl
  intro v u' H locs ls pc I hd hp
  exact W.iret (v := v) hx hb hr (fun t ht hW => ⟨⟨v, u', rfl, hp, by rw [ht]; exact I.1, va_K.moved hW.alike I.2.2.2.1, I.2.1⟩, I.2.2.1.F ht⟩) I.2.2.1.2.2 hd
theorem M_metz {post : Int32 → MS → Prop} (hy : plainName y.cls = true) (hc : y.cls = R_M) (hlen : (lg_sl (.ref (a 0) :: As)).length ≤ maxL)
    (body : ∀ (p : Program) (e : Env) (s : State) (m : MethodId) (args : Array Value) (below : List Frame) (meth : Method) (c : Code) (A : Nat → Prop) (Q : State → Prop), CallFix p m c b maxL s args lw_gt R_M → M_I dC dI cA a A s s.heap s.heap [] u →
      (∀ (v : Nat) (u' : MS) (H : Heap) (locs : List Loc) (ls : Array Slot) (pc : Nat), M_I dC dI cA a A s s.heap H locs u' → decode b pc = .ok (.ireturn, 1) → v ≤ 1 → post (nI v) u' → W p l e rm s m args below meth c H locs 0 0 Q (F0 m pc ls [.int (nI v)])) →
      ∀ ls : Array Slot, lv_has ls maxL (lv_args 0 (.ref (a 0) :: As)) → W p l e rm s m args below meth c s.heap [] 0 0 Q (F0 m 0 ls [])) : M_Mi l dC dI cA a y b maxL (some .boolean) rm As u post := by
  intro sz
  refine Met.ofW (cc := b) (maxL := maxL) (ret := some .boolean) hy rfl ?_
  intro p e s m args below meth c s₁ B hml hv
  obtain ⟨rfl, hsz, hP, hK, hD0⟩ := hv
  have hx := B.exec
  have hb := B.bytes
  have hr := B.returns
  have hts := atoms_spec (ws := Cond.code y b maxL (some .boolean) :: lw_gt) B.pre
  have hown : s.vm.findClass R_M = some m.cls := by rw [← hc]; exact findClass_of_methodNamed B.named
  have hlocks := B.notSynchronized
  subst hsz
  have hD := hD0.self (sz := s.heap.size)
  generalize hAe : va_A (M_w cA a u) s.heap.size = A at hD ⊢
  have hA : ∀ q : Nat, s.heap.size ≤ q → A q := fun q h => by rw [← hAe]; exact Or.inr h
  have hl := lv_entry (.ref (a 0) :: As) (n := maxL) hlen
  rw [lg_entry_eq]
  refine body p e s m _ below meth c A _ ⟨hx, hb, hml, hown, fun w hw => hts w (List.mem_cons_of_mem _ hw)⟩ ⟨hP, hD, va_S.rf, hK, hA⟩ ?_ _ hl
  intro v u' H locs ls pc I hd hv1 hp
  exact W.zret (v := nI v) hx hb hr (by rcases (show v = 0 ∨ v = 1 by omega) with rfl | rfl <;> rfl) (fun t ht hW => ⟨⟨nI v, u', rfl, hp, by rw [ht]; exact I.1, va_K.moved hW.alike I.2.2.2.1, I.2.1⟩, I.2.2.1.F ht⟩) I.2.2.1.2.2 hd
theorem M_metv {post : MS → Prop} (hy : plainName y.cls = true) (hc : y.cls = R_M) (hlen : (lg_sl (.ref (a 0) :: As)).length ≤ maxL)
    (body : ∀ (p : Program) (e : Env) (s : State) (m : MethodId) (args : Array Value) (below : List Frame) (meth : Method) (c : Code) (A : Nat → Prop) (Q : State → Prop), CallFix p m c b maxL s args lw_gt R_M → M_I dC dI cA a A s s.heap s.heap [] u →
      (∀ (u' : MS) (H : Heap) (locs : List Loc) (ls : Array Slot) (pc : Nat), M_I dC dI cA a A s s.heap H locs u' → decode b pc = .ok (.return_, 1) → post u' → W p l e rm s m args below meth c H locs 0 0 Q (F0 m pc ls [])) →
      ∀ ls : Array Slot, lv_has ls maxL (lv_args 0 (.ref (a 0) :: As)) → W p l e rm s m args below meth c s.heap [] 0 0 Q (F0 m 0 ls [])) : M_Mv l dC dI cA a y b maxL rm As u post := by
  intro sz
  refine Met.ofW (cc := b) (maxL := maxL) (ret := none) hy rfl ?_
  intro p e s m args below meth c s₁ B hml hv
  obtain ⟨rfl, hsz, hP, hK, hD0⟩ := hv
  have hx := B.exec
  have hb := B.bytes
  have hr := B.returns
  have hts := atoms_spec (ws := Cond.code y b maxL none :: lw_gt) B.pre
  have hown : s.vm.findClass R_M = some m.cls := by rw [← hc]; exact findClass_of_methodNamed B.named
  have hlocks := B.notSynchronized
  subst hsz
  have hD := hD0.self (sz := s.heap.size)
  generalize hAe : va_A (M_w cA a u) s.heap.size = A at hD ⊢
  have hA : ∀ q : Nat, s.heap.size ≤ q → A q := fun q h => by rw [← hAe]; exact Or.inr h
  have hl := lv_entry (.ref (a 0) :: As) (n := maxL) hlen
  rw [lg_entry_eq]
  refine body p e s m _ below meth c A _ ⟨hx, hb, hml, hown, fun w hw => hts w (List.mem_cons_of_mem _ hw)⟩ ⟨hP, hD, va_S.rf, hK, hA⟩ ?_ _ hl
  intro u' H locs ls pc I hd hp
  exact W.vret hx hb hr (fun t ht hW => ⟨⟨u', rfl, hp, by rw [ht]; exact I.1, va_K.moved hW.alike I.2.2.2.1, I.2.1⟩, I.2.2.1.F ht⟩) I.2.2.1.2.2 hd
end SM
theorem e_X_push : y_X_push.cls = R_X ∧ y_X_push.cls ≠ "java/lang/invoke/MethodHandle" ∧ y_X_push.cls ≠ "java/lang/invoke/VarHandle" ∧ (parseMethodDescriptor y_X_push.desc).map (fun d => d.parameters.length) = some 1 := by decide +kernel
theorem e_X_pop : y_X_pop.cls = R_X ∧ y_X_pop.cls ≠ "java/lang/invoke/MethodHandle" ∧ y_X_pop.cls ≠ "java/lang/invoke/VarHandle" ∧ (parseMethodDescriptor y_X_pop.desc).map (fun d => d.parameters.length) = some 1 := by decide +kernel
theorem e_X_repeat : y_X_repeat.cls = R_X ∧ y_X_repeat.cls ≠ "java/lang/invoke/MethodHandle" ∧ y_X_repeat.cls ≠ "java/lang/invoke/VarHandle" ∧ (parseMethodDescriptor y_X_repeat.desc).map (fun d => d.parameters.length) = some 2 := by decide +kernel
theorem e_X_isPlace : y_X_isPlace.cls = R_X ∧ y_X_isPlace.cls ≠ "java/lang/invoke/MethodHandle" ∧ y_X_isPlace.cls ≠ "java/lang/invoke/VarHandle" ∧ (parseMethodDescriptor y_X_isPlace.desc).map (fun d => d.parameters.length) = some 1 := by decide +kernel
theorem e_X_set : y_X_set.cls = R_X ∧ y_X_set.cls ≠ "java/lang/invoke/MethodHandle" ∧ y_X_set.cls ≠ "java/lang/invoke/VarHandle" ∧ (parseMethodDescriptor y_X_set.desc).map (fun d => d.parameters.length) = some 2 := by decide +kernel
theorem e_X_reverse : y_X_reverse.cls = R_X ∧ y_X_reverse.cls ≠ "java/lang/invoke/MethodHandle" ∧ y_X_reverse.cls ≠ "java/lang/invoke/VarHandle" ∧ (parseMethodDescriptor y_X_reverse.desc).map (fun d => d.parameters.length) = some 0 := by decide +kernel
theorem e_X_length : y_X_length.cls = R_X ∧ y_X_length.cls ≠ "java/lang/invoke/MethodHandle" ∧ y_X_length.cls ≠ "java/lang/invoke/VarHandle" ∧ (parseMethodDescriptor y_X_length.desc).map (fun d => d.parameters.length) = some 0 := by decide +kernel
theorem e_X_symbol : y_X_symbol.cls = R_X ∧ y_X_symbol.cls ≠ "java/lang/invoke/MethodHandle" ∧ y_X_symbol.cls ≠ "java/lang/invoke/VarHandle" ∧ (parseMethodDescriptor y_X_symbol.desc).map (fun d => d.parameters.length) = some 1 := by decide +kernel
theorem e_X_runs : y_X_runs.cls = R_X ∧ y_X_runs.cls ≠ "java/lang/invoke/MethodHandle" ∧ y_X_runs.cls ≠ "java/lang/invoke/VarHandle" ∧ (parseMethodDescriptor y_X_runs.desc).map (fun d => d.parameters.length) = some 0 := by decide +kernel
theorem e_X_refresh : y_X_refresh.cls = R_X ∧ y_X_refresh.cls ≠ "java/lang/invoke/MethodHandle" ∧ y_X_refresh.cls ≠ "java/lang/invoke/VarHandle" ∧ (parseMethodDescriptor y_X_refresh.desc).map (fun d => d.parameters.length) = some 0 := by decide +kernel
theorem e_X_findEndings : y_X_findEndings.cls = R_X ∧ y_X_findEndings.cls ≠ "java/lang/invoke/MethodHandle" ∧ y_X_findEndings.cls ≠ "java/lang/invoke/VarHandle" ∧ (parseMethodDescriptor y_X_findEndings.desc).map (fun d => d.parameters.length) = some 1 := by decide +kernel
theorem e_X_comesBefore : y_X_comesBefore.cls = R_X ∧ y_X_comesBefore.cls ≠ "java/lang/invoke/MethodHandle" ∧ y_X_comesBefore.cls ≠ "java/lang/invoke/VarHandle" ∧ (parseMethodDescriptor y_X_comesBefore.desc).map (fun d => d.parameters.length) = some 3 := by decide +kernel
theorem e_X_forward : y_X_forward.cls = R_X ∧ y_X_forward.cls ≠ "java/lang/invoke/MethodHandle" ∧ y_X_forward.cls ≠ "java/lang/invoke/VarHandle" ∧ (parseMethodDescriptor y_X_forward.desc).map (fun d => d.parameters.length) = some 2 := by decide +kernel
theorem e_X_widen : y_X_widen.cls = R_X ∧ y_X_widen.cls ≠ "java/lang/invoke/MethodHandle" ∧ y_X_widen.cls ≠ "java/lang/invoke/VarHandle" ∧ (parseMethodDescriptor y_X_widen.desc).map (fun d => d.parameters.length) = some 2 := by decide +kernel
theorem e_X_backward : y_X_backward.cls = R_X ∧ y_X_backward.cls ≠ "java/lang/invoke/MethodHandle" ∧ y_X_backward.cls ≠ "java/lang/invoke/VarHandle" ∧ (parseMethodDescriptor y_X_backward.desc).map (fun d => d.parameters.length) = some 2 := by decide +kernel
theorem e_X_insert : y_X_insert.cls = R_X ∧ y_X_insert.cls ≠ "java/lang/invoke/MethodHandle" ∧ y_X_insert.cls ≠ "java/lang/invoke/VarHandle" ∧ (parseMethodDescriptor y_X_insert.desc).map (fun d => d.parameters.length) = some 3 := by decide +kernel
theorem e_X_start : y_X_start.cls = R_X ∧ y_X_start.cls ≠ "java/lang/invoke/MethodHandle" ∧ y_X_start.cls ≠ "java/lang/invoke/VarHandle" ∧ (parseMethodDescriptor y_X_start.desc).map (fun d => d.parameters.length) = some 1 := by decide +kernel
theorem e_X_isRun : y_X_isRun.cls = R_X ∧ y_X_isRun.cls ≠ "java/lang/invoke/MethodHandle" ∧ y_X_isRun.cls ≠ "java/lang/invoke/VarHandle" ∧ (parseMethodDescriptor y_X_isRun.desc).map (fun d => d.parameters.length) = some 1 := by decide +kernel
theorem e_X_end : y_X_end.cls = R_X ∧ y_X_end.cls ≠ "java/lang/invoke/MethodHandle" ∧ y_X_end.cls ≠ "java/lang/invoke/VarHandle" ∧ (parseMethodDescriptor y_X_end.desc).map (fun d => d.parameters.length) = some 1 := by decide +kernel
theorem e_X_period : y_X_period.cls = R_X ∧ y_X_period.cls ≠ "java/lang/invoke/MethodHandle" ∧ y_X_period.cls ≠ "java/lang/invoke/VarHandle" ∧ (parseMethodDescriptor y_X_period.desc).map (fun d => d.parameters.length) = some 1 := by decide +kernel
theorem e_X_runsAt : y_X_runsAt.cls = R_X ∧ y_X_runsAt.cls ≠ "java/lang/invoke/MethodHandle" ∧ y_X_runsAt.cls ≠ "java/lang/invoke/VarHandle" ∧ (parseMethodDescriptor y_X_runsAt.desc).map (fun d => d.parameters.length) = some 1 := by decide +kernel
theorem e_X_squaresFrom : y_X_squaresFrom.cls = R_X ∧ y_X_squaresFrom.cls ≠ "java/lang/invoke/MethodHandle" ∧ y_X_squaresFrom.cls ≠ "java/lang/invoke/VarHandle" ∧ (parseMethodDescriptor y_X_squaresFrom.desc).map (fun d => d.parameters.length) = some 1 := by decide +kernel
theorem e_X_squares : y_X_squares.cls = R_X ∧ y_X_squares.cls ≠ "java/lang/invoke/MethodHandle" ∧ y_X_squares.cls ≠ "java/lang/invoke/VarHandle" ∧ (parseMethodDescriptor y_X_squares.desc).map (fun d => d.parameters.length) = some 0 := by decide +kernel
theorem e_X_periodOf : y_X_periodOf.cls = R_X ∧ y_X_periodOf.cls ≠ "java/lang/invoke/MethodHandle" ∧ y_X_periodOf.cls ≠ "java/lang/invoke/VarHandle" ∧ (parseMethodDescriptor y_X_periodOf.desc).map (fun d => d.parameters.length) = some 2 := by decide +kernel
theorem e_X_longest : y_X_longest.cls = R_X ∧ y_X_longest.cls ≠ "java/lang/invoke/MethodHandle" ∧ y_X_longest.cls ≠ "java/lang/invoke/VarHandle" ∧ (parseMethodDescriptor y_X_longest.desc).map (fun d => d.parameters.length) = some 0 := by decide +kernel
theorem e_X_power : y_X_power.cls = R_X ∧ y_X_power.cls ≠ "java/lang/invoke/MethodHandle" ∧ y_X_power.cls ≠ "java/lang/invoke/VarHandle" ∧ (parseMethodDescriptor y_X_power.desc).map (fun d => d.parameters.length) = some 0 := by decide +kernel
theorem e_X_common : y_X_common.cls = R_X ∧ y_X_common.cls ≠ "java/lang/invoke/MethodHandle" ∧ y_X_common.cls ≠ "java/lang/invoke/VarHandle" ∧ (parseMethodDescriptor y_X_common.desc).map (fun d => d.parameters.length) = some 2 := by decide +kernel
theorem e_X_nextSmaller : y_X_nextSmaller.cls = R_X ∧ y_X_nextSmaller.cls ≠ "java/lang/invoke/MethodHandle" ∧ y_X_nextSmaller.cls ≠ "java/lang/invoke/VarHandle" ∧ (parseMethodDescriptor y_X_nextSmaller.desc).map (fun d => d.parameters.length) = some 1 := by decide +kernel
theorem e_M_push : y_M_push.cls = R_M ∧ y_M_push.cls ≠ "java/lang/invoke/MethodHandle" ∧ y_M_push.cls ≠ "java/lang/invoke/VarHandle" ∧ (parseMethodDescriptor y_M_push.desc).map (fun d => d.parameters.length) = some 1 := by decide +kernel
theorem e_M_pop : y_M_pop.cls = R_M ∧ y_M_pop.cls ≠ "java/lang/invoke/MethodHandle" ∧ y_M_pop.cls ≠ "java/lang/invoke/VarHandle" ∧ (parseMethodDescriptor y_M_pop.desc).map (fun d => d.parameters.length) = some 1 := by decide +kernel
theorem e_M_repeat : y_M_repeat.cls = R_M ∧ y_M_repeat.cls ≠ "java/lang/invoke/MethodHandle" ∧ y_M_repeat.cls ≠ "java/lang/invoke/VarHandle" ∧ (parseMethodDescriptor y_M_repeat.desc).map (fun d => d.parameters.length) = some 2 := by decide +kernel
theorem e_M_bad : y_M_bad.cls = R_M ∧ y_M_bad.cls ≠ "java/lang/invoke/MethodHandle" ∧ y_M_bad.cls ≠ "java/lang/invoke/VarHandle" ∧ (parseMethodDescriptor y_M_bad.desc).map (fun d => d.parameters.length) = some 1 := by decide +kernel
theorem e_M_set : y_M_set.cls = R_M ∧ y_M_set.cls ≠ "java/lang/invoke/MethodHandle" ∧ y_M_set.cls ≠ "java/lang/invoke/VarHandle" ∧ (parseMethodDescriptor y_M_set.desc).map (fun d => d.parameters.length) = some 2 := by decide +kernel
theorem e_M_reverse : y_M_reverse.cls = R_M ∧ y_M_reverse.cls ≠ "java/lang/invoke/MethodHandle" ∧ y_M_reverse.cls ≠ "java/lang/invoke/VarHandle" ∧ (parseMethodDescriptor y_M_reverse.desc).map (fun d => d.parameters.length) = some 0 := by decide +kernel
theorem e_M_length : y_M_length.cls = R_M ∧ y_M_length.cls ≠ "java/lang/invoke/MethodHandle" ∧ y_M_length.cls ≠ "java/lang/invoke/VarHandle" ∧ (parseMethodDescriptor y_M_length.desc).map (fun d => d.parameters.length) = some 0 := by decide +kernel
theorem e_M_symbol : y_M_symbol.cls = R_M ∧ y_M_symbol.cls ≠ "java/lang/invoke/MethodHandle" ∧ y_M_symbol.cls ≠ "java/lang/invoke/VarHandle" ∧ (parseMethodDescriptor y_M_symbol.desc).map (fun d => d.parameters.length) = some 1 := by decide +kernel
theorem e_M_runs : y_M_runs.cls = R_M ∧ y_M_runs.cls ≠ "java/lang/invoke/MethodHandle" ∧ y_M_runs.cls ≠ "java/lang/invoke/VarHandle" ∧ (parseMethodDescriptor y_M_runs.desc).map (fun d => d.parameters.length) = some 0 := by decide +kernel
theorem e_M_list : y_M_list.cls = R_M ∧ y_M_list.cls ≠ "java/lang/invoke/MethodHandle" ∧ y_M_list.cls ≠ "java/lang/invoke/VarHandle" ∧ (parseMethodDescriptor y_M_list.desc).map (fun d => d.parameters.length) = some 0 := by decide +kernel
theorem e_M_runFrom : y_M_runFrom.cls = R_M ∧ y_M_runFrom.cls ≠ "java/lang/invoke/MethodHandle" ∧ y_M_runFrom.cls ≠ "java/lang/invoke/VarHandle" ∧ (parseMethodDescriptor y_M_runFrom.desc).map (fun d => d.parameters.length) = some 2 := by decide +kernel
theorem e_M_hasPeriod : y_M_hasPeriod.cls = R_M ∧ y_M_hasPeriod.cls ≠ "java/lang/invoke/MethodHandle" ∧ y_M_hasPeriod.cls ≠ "java/lang/invoke/VarHandle" ∧ (parseMethodDescriptor y_M_hasPeriod.desc).map (fun d => d.parameters.length) = some 3 := by decide +kernel
theorem e_M_leastPeriod : y_M_leastPeriod.cls = R_M ∧ y_M_leastPeriod.cls ≠ "java/lang/invoke/MethodHandle" ∧ y_M_leastPeriod.cls ≠ "java/lang/invoke/VarHandle" ∧ (parseMethodDescriptor y_M_leastPeriod.desc).map (fun d => d.parameters.length) = some 2 := by decide +kernel
theorem e_M_start : y_M_start.cls = R_M ∧ y_M_start.cls ≠ "java/lang/invoke/MethodHandle" ∧ y_M_start.cls ≠ "java/lang/invoke/VarHandle" ∧ (parseMethodDescriptor y_M_start.desc).map (fun d => d.parameters.length) = some 1 := by decide +kernel
theorem e_M_end : y_M_end.cls = R_M ∧ y_M_end.cls ≠ "java/lang/invoke/MethodHandle" ∧ y_M_end.cls ≠ "java/lang/invoke/VarHandle" ∧ (parseMethodDescriptor y_M_end.desc).map (fun d => d.parameters.length) = some 1 := by decide +kernel
theorem e_M_period : y_M_period.cls = R_M ∧ y_M_period.cls ≠ "java/lang/invoke/MethodHandle" ∧ y_M_period.cls ≠ "java/lang/invoke/VarHandle" ∧ (parseMethodDescriptor y_M_period.desc).map (fun d => d.parameters.length) = some 1 := by decide +kernel
theorem e_M_runsAt : y_M_runsAt.cls = R_M ∧ y_M_runsAt.cls ≠ "java/lang/invoke/MethodHandle" ∧ y_M_runsAt.cls ≠ "java/lang/invoke/VarHandle" ∧ (parseMethodDescriptor y_M_runsAt.desc).map (fun d => d.parameters.length) = some 1 := by decide +kernel
theorem e_M_squaresFrom : y_M_squaresFrom.cls = R_M ∧ y_M_squaresFrom.cls ≠ "java/lang/invoke/MethodHandle" ∧ y_M_squaresFrom.cls ≠ "java/lang/invoke/VarHandle" ∧ (parseMethodDescriptor y_M_squaresFrom.desc).map (fun d => d.parameters.length) = some 1 := by decide +kernel
theorem e_M_squares : y_M_squares.cls = R_M ∧ y_M_squares.cls ≠ "java/lang/invoke/MethodHandle" ∧ y_M_squares.cls ≠ "java/lang/invoke/VarHandle" ∧ (parseMethodDescriptor y_M_squares.desc).map (fun d => d.parameters.length) = some 0 := by decide +kernel
theorem e_M_periodOf : y_M_periodOf.cls = R_M ∧ y_M_periodOf.cls ≠ "java/lang/invoke/MethodHandle" ∧ y_M_periodOf.cls ≠ "java/lang/invoke/VarHandle" ∧ (parseMethodDescriptor y_M_periodOf.desc).map (fun d => d.parameters.length) = some 2 := by decide +kernel
theorem e_M_longest : y_M_longest.cls = R_M ∧ y_M_longest.cls ≠ "java/lang/invoke/MethodHandle" ∧ y_M_longest.cls ≠ "java/lang/invoke/VarHandle" ∧ (parseMethodDescriptor y_M_longest.desc).map (fun d => d.parameters.length) = some 0 := by decide +kernel
theorem e_M_power : y_M_power.cls = R_M ∧ y_M_power.cls ≠ "java/lang/invoke/MethodHandle" ∧ y_M_power.cls ≠ "java/lang/invoke/VarHandle" ∧ (parseMethodDescriptor y_M_power.desc).map (fun d => d.parameters.length) = some 0 := by decide +kernel
theorem e_M_common : y_M_common.cls = R_M ∧ y_M_common.cls ≠ "java/lang/invoke/MethodHandle" ∧ y_M_common.cls ≠ "java/lang/invoke/VarHandle" ∧ (parseMethodDescriptor y_M_common.desc).map (fun d => d.parameters.length) = some 2 := by decide +kernel
theorem e_M_shared : y_M_shared.cls = R_M ∧ y_M_shared.cls ≠ "java/lang/invoke/MethodHandle" ∧ y_M_shared.cls ≠ "java/lang/invoke/VarHandle" ∧ (parseMethodDescriptor y_M_shared.desc).map (fun d => d.parameters.length) = some 2 := by decide +kernel
theorem e_M_nextSmaller : y_M_nextSmaller.cls = R_M ∧ y_M_nextSmaller.cls ≠ "java/lang/invoke/MethodHandle" ∧ y_M_nextSmaller.cls ≠ "java/lang/invoke/VarHandle" ∧ (parseMethodDescriptor y_M_nextSmaller.desc).map (fun d => d.parameters.length) = some 1 := by decide +kernel
end
section
/-! words over Nat, no program in sight: periods, runs, next smaller endings -/
def rf_per (T : Nat → Nat) (i e p : Nat) : Prop := ∀ k, i ≤ k → k + p < e → T k = T (k + p)
def rf_run (T : Nat → Nat) (n i j p : Nat) : Prop :=
  1 ≤ p ∧ i + 2 * p ≤ j + 1 ∧ j < n ∧ rf_per T i (j + 1) p ∧ (0 < i → T (i - 1) ≠ T (i - 1 + p)) ∧ (j + 1 < n → T (j + 1 - p) ≠ T (j + 1)) ∧ ∀ q, 1 ≤ q → q < p → ¬ rf_per T i (j + 1) q
def rf_lt (b x y : Nat) : Prop := if b = 0 then y < x else x < y
def rf_gt (T : Nat → Nat) (n b k i : Nat) : Prop := ∃ t, k + t < n ∧ (∀ u, u < t → T (k + u) = T (i + u)) ∧ rf_lt b (T (i + t)) (T (k + t))
def rf_ns (T : Nat → Nat) (n b i k : Nat) : Prop := i < k ∧ k ≤ n ∧ (∀ k', i < k' → k' < k → rf_gt T n b k' i) ∧ (k < n → ¬ rf_gt T n b k i)
def rf_F (T : Nat → Nat) (n i j k : Nat) : Prop := (∀ t, t < k → i + t < n ∧ j + t < n ∧ T (i + t) = T (j + t)) ∧ ¬ (i + k < n ∧ j + k < n ∧ T (i + k) = T (j + k))
def rf_B (T : Nat → Nat) (i j k : Nat) : Prop := (∀ t, t < k → t < i ∧ t < j ∧ T (i - 1 - t) = T (j - 1 - t)) ∧ ¬ (k < i ∧ k < j ∧ T (i - 1 - k) = T (j - 1 - k))
theorem rf_lt_irr {b x : Nat} : ¬ rf_lt b x x := by unfold rf_lt; split <;> omega
theorem rf_lt_trans {b x y z : Nat} (h1 : rf_lt b x y) (h2 : rf_lt b y z) : rf_lt b x z := by unfold rf_lt at *; split at h1 <;> simp_all <;> omega
theorem rf_lt_asym {b x y : Nat} (h1 : rf_lt b x y) (h2 : rf_lt b y x) : False := rf_lt_irr (rf_lt_trans h1 h2)
theorem rf_lt_tri {b x y : Nat} (h : x ≠ y) : rf_lt b x y ∨ rf_lt b y x := by unfold rf_lt; split <;> omega
theorem rf_F_u {T : Nat → Nat} {n i j k k' : Nat} (h : rf_F T n i j k) (h' : rf_F T n i j k') : k = k' := by
  rcases Nat.lt_trichotomy k k' with q | q | q
  · exact absurd (h'.1 k q) h.2
  · exact q
  · exact absurd (h.1 k' q) h'.2
theorem rf_gt_trans {T : Nat → Nat} {n b i k k' : Nat} (h1 : rf_gt T n b k i) (h2 : rf_gt T n b k' k) : rf_gt T n b k' i := by
  obtain ⟨s, a1, a2, a3⟩ := h1
  obtain ⟨t, b1, b2, b3⟩ := h2
  rcases Nat.lt_trichotomy s t with h | h | h
  · refine ⟨s, by omega, fun u hu => ?_, ?_⟩
    · rw [b2 u (by omega), a2 u hu]
    · rw [b2 s h]; exact a3
  · subst h
    exact ⟨s, b1, fun u hu => by rw [b2 u hu, a2 u hu], rf_lt_trans a3 b3⟩
  · refine ⟨t, b1, fun u hu => by rw [b2 u hu, a2 u (by omega)], ?_⟩
    rw [← a2 t h]; exact b3
/-- what the comparison at the first difference says -/
theorem rf_gt_iff {T : Nat → Nat} {n b i k s : Nat} (hik : i < k) (hF : rf_F T n i k s) : rf_gt T n b k i ↔ k + s < n ∧ rf_lt b (T (i + s)) (T (k + s)) := by
  constructor
  · rintro ⟨t, h1, h2, h3⟩
    rcases Nat.lt_trichotomy t s with q | q | q
    · have h := (hF.1 t q).2.2
      rw [h] at h3
      exact absurd h3 rf_lt_irr
    · subst q
      exact ⟨h1, h3⟩
    · exact absurd ⟨by omega, by omega, (h2 s q).symm⟩ hF.2
  · rintro ⟨h1, h2⟩
    exact ⟨s, h1, fun u hu => ((hF.1 u hu).2.2).symm, h2⟩
theorem rf_ns_u {T : Nat → Nat} {n b i k k' : Nat} (h : rf_ns T n b i k) (h' : rf_ns T n b i k') : k = k' := by
  rcases Nat.lt_trichotomy k k' with q | q | q
  · exact absurd (h'.2.2.1 k h.1 q) (h.2.2.2 (by have := h'.2.1; omega))
  · exact q
  · exact absurd (h.2.2.1 k' h'.1 q) (h'.2.2.2 (by have := h.2.1; omega))
theorem rf_per_mono {T : Nat → Nat} {i e p i' e' : Nat} (h : rf_per T i e p) (hi : i ≤ i') (he : e' ≤ e) : rf_per T i' e' p := fun k h1 h2 => h k (by omega) (by omega)
theorem rf_B_le {T : Nat → Nat} {i j k : Nat} (h : rf_B T i j k) : k ≤ i ∧ k ≤ j := by
  rcases Nat.eq_zero_or_pos k with q | q
  · omega
  · have := h.1 (k - 1) (by omega); omega
theorem rf_F_le {T : Nat → Nat} {n i j k : Nat} (h : rf_F T n i j k) (hj : j ≤ n) : j + k ≤ n := by
  rcases Nat.eq_zero_or_pos k with q | q
  · omega
  · have := h.1 (k - 1) (by omega); omega
/-- widening the stretch from s to its next smaller ending: if it gets as long as two periods it is a run, and its least period is the stretch's length -/
theorem rf_widen {T : Nat → Nat} {n b s k lf r : Nat} (hns : rf_ns T n b s k) (hF : rf_F T n s k r) (hB : rf_B T s k lf) (h : k - s ≤ lf + r) : rf_run T n (s - lf) (k + r - 1) (k - s) := by
  obtain ⟨hsk, hkn, hbig, hsm⟩ := hns
  have hl := (rf_B_le hB).1
  have hr := rf_F_le hF hkn
  have hper : rf_per T (s - lf) (k + r) (k - s) := by
    intro x h1 h2
    by_cases hx : x < s
    · have q := (hB.1 (s - 1 - x) (by omega)).2.2
      rw [show s - 1 - (s - 1 - x) = x by omega, show k - 1 - (s - 1 - x) = x + (k - s) by omega] at q
      exact q
    · have q := (hF.1 (x - s) (by omega)).2.2
      rw [show s + (x - s) = x by omega, show k + (x - s) = x + (k - s) by omega] at q
      exact q
  refine ⟨by omega, by omega, by omega, by rw [show k + r - 1 + 1 = k + r by omega]; exact hper, fun h0 => ?_, fun h0 => ?_, fun q hq1 hq2 hq => ?_⟩
  · intro hE
    refine hB.2 ⟨by omega, by omega, ?_⟩
    rw [show s - 1 - lf = s - lf - 1 by omega, show k - 1 - lf = s - lf - 1 + (k - s) by omega]
    exact hE
  · intro hE
    refine hF.2 ⟨by omega, by omega, ?_⟩
    rw [show s + r = k + r - 1 + 1 - (k - s) by omega]
    rw [hE]
    congr 1
    omega
  · rw [show k + r - 1 + 1 = k + r by omega] at hq
    obtain ⟨t, t1, t2, t3⟩ := hbig (s + q) (by omega) (by omega)
    have hge : k + r ≤ s + q + t := by
      rcases Nat.lt_or_ge (s + q + t) (k + r) with w | w
      · have := hq (s + t) (by omega) (by omega)
        rw [show s + t + q = s + q + t by omega] at this
        rw [this] at t3
        exact absurd t3 rf_lt_irr
      · exact w
    have he : k + r < n := by omega
    have hne : T (s + r) ≠ T (k + r) := fun w => hF.2 ⟨by omega, he, w⟩
    have hlt : rf_lt b (T (k + r)) (T (s + r)) := by
      rcases rf_lt_tri (b := b) hne with w | w
      · exact absurd ⟨r, he, fun u hu => ((hF.1 u hu).2.2).symm, w⟩ (hsm (by omega))
      · exact w
    have e1 := hper (s + r - q) (by omega) (by omega)
    rw [show s + r - q + (k - s) = k + r - q by omega] at e1
    have e2 := hq (s + r - q) (by omega) (by omega)
    rw [show s + r - q + q = s + r by omega] at e2
    rcases Nat.lt_or_ge (k + r) (s + q + t) with w | w
    · have e3 := t2 (k + r - s - q) (by omega)
      rw [show s + q + (k + r - s - q) = k + r by omega, show s + (k + r - s - q) = k + r - q by omega] at e3
      exact hne (by rw [e3, ← e1, e2])
    · rw [show s + t = k + r - q by omega, show s + q + t = k + r by omega, ← e1, e2] at t3
      exact rf_lt_asym t3 hlt
/-- two runs of one period that share a period's length and a symbol's place are one -/
theorem rf_run_u {T : Nat → Nat} {n i j i' j' p s : Nat} (h : rf_run T n i j p) (h' : rf_run T n i' j' p) (h1 : i ≤ s) (h2 : i' ≤ s) (h3 : s + p ≤ j + 1) (h4 : s + p ≤ j' + 1) : i = i' ∧ j = j' := by
  obtain ⟨p1, a1, a2, a3, a4, a5, -⟩ := h
  obtain ⟨-, b1, b2, b3, b4, b5, -⟩ := h'
  constructor
  · rcases Nat.lt_trichotomy i i' with q | q | q
    · exact absurd (a3 (i' - 1) (by omega) (by omega)) (b4 (by omega))
    · exact q
    · exact absurd (b3 (i - 1) (by omega) (by omega)) (a4 (by omega))
  · rcases Nat.lt_trichotomy j j' with q | q | q
    · have := b3 (j + 1 - p) (by omega) (by omega)
      rw [show j + 1 - p + p = j + 1 by omega] at this
      exact absurd this (a5 (by omega))
    · exact q
    · have := a3 (j' + 1 - p) (by omega) (by omega)
      rw [show j' + 1 - p + p = j' + 1 by omega] at this
      exact absurd this (b5 (by omega))
/-- a stretch of period p repeats its first p symbols -/
theorem rf_per_mod {T : Nat → Nat} {i e p : Nat} (hp : 1 ≤ p) (h : rf_per T i e p) : ∀ x, i + x < e → T (i + x) = T (i + x % p) := by
  intro x
  induction x using Nat.strongRecOn with
  | _ x ih =>
    intro hx
    rcases Nat.lt_or_ge x p with q | q
    · rw [Nat.mod_eq_of_lt q]
    · have h1 := h (i + (x - p)) (by omega) (by omega)
      rw [show i + (x - p) + p = i + x by omega] at h1
      rw [← h1, ih (x - p) (by omega) (by omega), Nat.mod_eq_sub_mod q]
/-- the infinite word of the root -/
def rf_c (T : Nat → Nat) (i p x : Nat) : Nat := T (i + x % p)
theorem rf_c_add {T : Nat → Nat} {i p : Nat} (x k : Nat) : rf_c T i p (x + p * k) = rf_c T i p x := by simp [rf_c]
theorem rf_c_p {T : Nat → Nat} {i p : Nat} (x : Nat) : rf_c T i p (x + p) = rf_c T i p x := by simp [rf_c]
theorem rf_c_mod {T : Nat → Nat} {i p : Nat} (x y : Nat) : rf_c T i p (x % p + y) = rf_c T i p (x + y) := by simp [rf_c]
def rf_ls (c : Nat → Nat) (b u v : Nat) : Prop := ∃ t, (∀ w, w < t → c (u + w) = c (v + w)) ∧ rf_lt b (c (u + t)) (c (v + t))
theorem rf_ls_irr {c : Nat → Nat} {b u : Nat} : ¬ rf_ls c b u u := fun ⟨_, _, h⟩ => rf_lt_irr h
theorem rf_ls_trans {c : Nat → Nat} {b u v w : Nat} (h1 : rf_ls c b u v) (h2 : rf_ls c b v w) : rf_ls c b u w := by
  obtain ⟨s, a1, a2⟩ := h1
  obtain ⟨t, b1, b2⟩ := h2
  rcases Nat.lt_trichotomy s t with h | h | h
  · exact ⟨s, fun z hz => by rw [a1 z hz, b1 z (by omega)], by rw [← b1 s h]; exact a2⟩
  · subst h
    exact ⟨s, fun z hz => by rw [a1 z hz, b1 z hz], rf_lt_trans a2 b2⟩
  · exact ⟨t, fun z hz => by rw [a1 z (by omega), b1 z hz], by rw [a1 t h]; exact b2⟩
theorem rf_ls_min (c : Nat → Nat) (b : Nat) : ∀ m, 1 ≤ m → ∃ s, s < m ∧ ∀ v, v < m → ¬ rf_ls c b v s := by
  intro m
  induction m with
  | zero => intro h; omega
  | succ m ih =>
    intro _
    rcases Nat.eq_zero_or_pos m with q | q
    · subst q
      refine ⟨0, by omega, fun v hv => ?_⟩
      rw [show v = 0 by omega]
      exact rf_ls_irr
    · obtain ⟨s, h1, h2⟩ := ih q
      by_cases hm : rf_ls c b m s
      · refine ⟨m, by omega, fun v hv hl => ?_⟩
        rcases Nat.lt_or_ge v m with w | w
        · exact h2 v w (rf_ls_trans hl hm)
        · rw [show v = m by omega] at hl
          exact rf_ls_irr hl
      · refine ⟨s, by omega, fun v hv => ?_⟩
        rcases Nat.lt_or_ge v m with w | w
        · exact h2 v w
        · rw [show v = m by omega]; exact hm
/-- EVERY RUN HAS A ROOT: a place s of its first period whose next smaller ending, under one of the two orders, is s + p -/
theorem rf_root {T : Nat → Nat} {n i j p : Nat} (h : rf_run T n i j p) : ∃ s b, i ≤ s ∧ s < i + p ∧ b < 2 ∧ rf_ns T n b s (s + p) := by
  obtain ⟨hp, hsz, hjn, hper, hL, hR, hleast⟩ := h
  obtain ⟨b, hb2, hb⟩ : ∃ b, b < 2 ∧ (j + 1 < n → rf_lt b (T (j + 1)) (T (j + 1 - p))) := by
    by_cases hj : j + 1 < n
    · have hne := hR hj
      rcases Nat.lt_or_ge (T (j + 1)) (T (j + 1 - p)) with q | q
      · exact ⟨1, by omega, fun _ => by simpa [rf_lt] using q⟩
      · exact ⟨0, by omega, fun _ => by simp only [rf_lt, if_true]; omega⟩
    · exact ⟨0, by omega, fun w => absurd w hj⟩
  obtain ⟨s0, hs0, hmin0⟩ := rf_ls_min (rf_c T i p) b p hp
  have hmin : ∀ v, ¬ rf_ls (rf_c T i p) b v s0 := by
    intro v hv
    obtain ⟨t, t1, t2⟩ := hv
    exact hmin0 (v % p) (Nat.mod_lt _ (by omega)) ⟨t, fun w hw => by rw [rf_c_mod]; exact t1 w hw, by rw [rf_c_mod]; exact t2⟩
  have hT : ∀ x, i + x < j + 1 → T (i + x) = rf_c T i p x := fun x hx => rf_per_mod hp hper x hx
  refine ⟨i + s0, b, by omega, by omega, hb2, by omega, by omega, fun k hk1 hk2 => ?_, fun _ hg => ?_⟩
  · obtain ⟨d, rfl⟩ : ∃ d, k = i + s0 + d := ⟨k - (i + s0), by omega⟩
    have hdif : ∃ t, rf_c T i p (s0 + d + t) ≠ rf_c T i p (s0 + t) := by
      refine Classical.byContradiction fun hno => ?_
      have hall : ∀ t, rf_c T i p (s0 + d + t) = rf_c T i p (s0 + t) := fun t => Classical.byContradiction fun w => hno ⟨t, w⟩
      refine hleast d (by omega) (by omega) (fun y hy1 hy2 => ?_)
      have e0 := hall (y - i + p - s0)
      rw [show s0 + (y - i + p - s0) = y - i + p by omega, show s0 + d + (y - i + p - s0) = y - i + d + p by omega, rf_c_p, rf_c_p] at e0
      have e1 := hT (y - i) (by omega)
      have e2 := hT (y - i + d) (by omega)
      rw [show i + (y - i) = y by omega] at e1
      rw [show i + (y - i + d) = y + d by omega] at e2
      rw [e1, e2, e0]
    obtain ⟨t, ht, htl⟩ := pk_least _ hdif
    have hag : ∀ w, w < t → rf_c T i p (s0 + d + w) = rf_c T i p (s0 + w) := fun w hw => Classical.byContradiction fun q => htl w hw q
    have hlt : rf_lt b (rf_c T i p (s0 + t)) (rf_c T i p (s0 + d + t)) := by
      rcases rf_lt_tri (b := b) ht with q | q
      · exact absurd ⟨t, hag, q⟩ (hmin (s0 + d))
      · exact q
    have hdt : d + t < p := by
      rcases Nat.lt_or_ge (d + t) p with q | q
      · exact q
      · refine absurd ⟨d + t - p, fun w hw => ?_, ?_⟩ (hmin (s0 + (p - d)))
        · have := hag (p - d + w) (by omega)
          rw [show s0 + d + (p - d + w) = s0 + w + p by omega, rf_c_p] at this
          rw [this]
          congr 1
          omega
        · rw [show s0 + (p - d) + (d + t - p) = s0 + t by omega, ← rf_c_p (s0 + (d + t - p)), show s0 + (d + t - p) + p = s0 + d + t by omega]
          exact hlt
    refine ⟨t, by omega, fun u hu => ?_, ?_⟩
    · have e1 := hT (s0 + d + u) (by omega)
      have e2 := hT (s0 + u) (by omega)
      rw [show i + s0 + d + u = i + (s0 + d + u) by omega, show i + s0 + u = i + (s0 + u) by omega, e1, e2, hag u hu]
    · have e1 := hT (s0 + d + t) (by omega)
      have e2 := hT (s0 + t) (by omega)
      rw [show i + s0 + d + t = i + (s0 + d + t) by omega, show i + s0 + t = i + (s0 + t) by omega, e1, e2]
      exact hlt
  · obtain ⟨t, t1, t2, t3⟩ := hg
    rcases Nat.lt_trichotomy (i + s0 + p + t) (j + 1) with q | q | q
    · have := hper (i + s0 + t) (by omega) (by omega)
      rw [show i + s0 + t + p = i + s0 + p + t by omega] at this
      rw [this] at t3
      exact rf_lt_irr t3
    · have h1 := hb (by omega)
      rw [q, show i + s0 + t = j + 1 - p by omega] at t3
      exact rf_lt_asym t3 h1
    · have h1 := t2 (j + 1 - (i + s0 + p)) (by omega)
      rw [show i + s0 + p + (j + 1 - (i + s0 + p)) = j + 1 by omega, show i + s0 + (j + 1 - (i + s0 + p)) = j + 1 - p by omega] at h1
      exact hR (by omega) h1.symm
end
section
/-! sums, counts, lists of runs, squares: no program in sight -/
noncomputable def rf_ind (P : Prop) : Nat := @ite Nat P (Classical.propDecidable P) 1 0
theorem rf_ind_t {P : Prop} (h : P) : rf_ind P = 1 := by simp [rf_ind, h]
theorem rf_ind_f {P : Prop} (h : ¬ P) : rf_ind P = 0 := by simp [rf_ind, h]
theorem rf_ind_c {P Q : Prop} (h : P ↔ Q) : rf_ind P = rf_ind Q := by rw [show P = Q from propext h]
theorem rf_ind_le (P : Prop) : rf_ind P ≤ 1 := by
  rcases Classical.em P with h | h
  · rw [rf_ind_t h]; omega
  · rw [rf_ind_f h]; omega
def rf_sum (f : Nat → Nat) : Nat → Nat
  | 0 => 0
  | n + 1 => rf_sum f n + f n
theorem rf_sum_c {f g : Nat → Nat} : ∀ n, (∀ x, x < n → f x = g x) → rf_sum f n = rf_sum g n
  | 0, _ => rfl
  | n + 1, h => by rw [rf_sum, rf_sum, rf_sum_c n (fun x hx => h x (by omega)), h n (by omega)]
theorem rf_sum_0 {f : Nat → Nat} : ∀ n, (∀ x, x < n → f x = 0) → rf_sum f n = 0
  | 0, _ => rfl
  | n + 1, h => by rw [rf_sum, rf_sum_0 n (fun x hx => h x (by omega)), h n (by omega)]
theorem rf_sum_add {f g : Nat → Nat} : ∀ n, rf_sum (fun x => f x + g x) n = rf_sum f n + rf_sum g n
  | 0 => rfl
  | n + 1 => by simp only [rf_sum]; rw [rf_sum_add n]; omega
theorem rf_sum_comm {f : Nat → Nat → Nat} (m : Nat) : ∀ n, rf_sum (fun x => rf_sum (fun y => f x y) m) n = rf_sum (fun y => rf_sum (fun x => f x y) n) m
  | 0 => by
    have h : ∀ k, (0 : Nat) = rf_sum (fun _ => 0) k := fun k => (rf_sum_0 k (fun _ _ => rfl)).symm
    exact h m
  | n + 1 => by simp only [rf_sum]; rw [rf_sum_comm m n, ← rf_sum_add m]
theorem rf_sum_le {f : Nat → Nat} {c : Nat} : ∀ n, (∀ x, x < n → f x ≤ c) → rf_sum f n ≤ c * n
  | 0, _ => by simp [rf_sum]
  | n + 1, h => by
    have h1 := rf_sum_le n (fun x hx => h x (by omega))
    have h2 := h n (by omega)
    rw [rf_sum, Nat.mul_succ]; omega
theorem rf_sum_tail {f : Nat → Nat} {a : Nat} : ∀ n, (∀ x, a ≤ x → f x = 0) → a ≤ n → rf_sum f n = rf_sum f a
  | 0, _, ha => by rw [show a = 0 by omega]
  | n + 1, h, ha => by
    rcases Nat.lt_or_ge n a with q | q
    · rw [show a = n + 1 by omega]
    · rw [rf_sum, rf_sum_tail n h q, h n q, Nat.add_zero]
theorem rf_sum_one {P : Nat → Prop} {x0 : Nat} : ∀ n, x0 < n → P x0 → (∀ x, x < n → P x → x = x0) → rf_sum (fun x => rf_ind (P x)) n = 1
  | 0, h, _, _ => by omega
  | n + 1, h, h0, hu => by
    rw [rf_sum]
    rcases Nat.lt_or_ge x0 n with q | q
    · rw [rf_sum_one n q h0 (fun x hx => hu x (by omega)), rf_ind_f (fun w => by have := hu n (by omega) w; omega)]
    · have e : x0 = n := by omega
      subst e
      rw [rf_sum_0 x0 (fun x hx => rf_ind_f (fun w => by have := hu x (by omega) w; omega)), rf_ind_t h0]
theorem rf_sum_1le {P : Nat → Prop} : ∀ n, (∀ x y, x < n → y < n → P x → P y → x = y) → rf_sum (fun x => rf_ind (P x)) n ≤ 1
  | 0, _ => by simp [rf_sum]
  | n + 1, hu => by
    rw [rf_sum]
    rcases Classical.em (P n) with q | q
    · rw [rf_sum_0 n (fun x hx => rf_ind_f (fun w => by have := hu x n (by omega) (by omega) w q; omega)), rf_ind_t q]; omega
    · rw [rf_ind_f q]
      have := rf_sum_1le n (fun x y hx hy => hu x y (by omega) (by omega))
      omega
theorem rf_sum_iv {a b : Nat} : ∀ n, b ≤ n → rf_sum (fun x => rf_ind (a ≤ x ∧ x < b)) n = b - a
  | 0, h => by simp [rf_sum]; omega
  | n + 1, h => by
    rw [rf_sum]
    rcases Nat.lt_or_ge n b with q | q
    · have e : b = n + 1 := by omega
      subst e
      have h1 : rf_sum (fun x => rf_ind (a ≤ x ∧ x < n + 1)) n = rf_sum (fun x => rf_ind (a ≤ x ∧ x < n)) n := rf_sum_c n (fun x hx => rf_ind_c ⟨fun w => ⟨w.1, hx⟩, fun w => ⟨w.1, by omega⟩⟩)
      rw [h1, rf_sum_iv n (Nat.le_refl n)]
      rcases Nat.lt_or_ge n a with w | w
      · rw [rf_ind_f (by omega)]; omega
      · rw [rf_ind_t (by omega)]; omega
    · rw [rf_sum_iv n q, rf_ind_f (by omega)]; omega
/-- an injection into m places -/
theorem rf_pigeon {c m : Nat} (f : Nat → Nat) (h1 : ∀ r, r < c → f r < m) (h2 : ∀ r s, r < c → s < c → f r = f s → r = s) : c ≤ m := by
  have e1 : rf_sum (fun r => rf_sum (fun x => rf_ind (f r = x)) m) c = rf_sum (fun _ => 1) c := rf_sum_c c (fun r hr => rf_sum_one (P := fun x => f r = x) m (h1 r hr) rfl (fun x _ hx => hx.symm))
  have e2 : ∀ k, rf_sum (fun _ => 1) k = k := fun k => by
    induction k with
    | zero => rfl
    | succ k ih => rw [rf_sum, ih]
  rw [rf_sum_comm, e2] at e1
  have e3 : rf_sum (fun x => rf_sum (fun r => rf_ind (f r = x)) c) m ≤ 1 * m := rf_sum_le m (fun x _ => rf_sum_1le (P := fun r => f r = x) c (fun r s hr hs a b => h2 r s hr hs (a.trans b.symm)))
  omega
def rf_lex (i p i' p' : Nat) : Prop := i < i' ∨ (i = i' ∧ p < p')
/-- c different runs, in order -/
def rf_lst (T : Nat → Nat) (n c : Nat) (Fi La St : Nat → Nat) : Prop := (∀ r, r < c → rf_run T n (Fi r) (La r) (St r)) ∧ ∀ r, r + 1 < c → rf_lex (Fi r) (St r) (Fi (r + 1)) (St (r + 1))
/-- all the runs, in order -/
def rf_all (T : Nat → Nat) (n c : Nat) (Fi La St : Nat → Nat) : Prop := rf_lst T n c Fi La St ∧ ∀ i j p, rf_run T n i j p → ∃ r, r < c ∧ Fi r = i ∧ La r = j ∧ St r = p
theorem rf_lex_trans {a b c d e f : Nat} (h1 : rf_lex a b c d) (h2 : rf_lex c d e f) : rf_lex a b e f := by unfold rf_lex at *; omega
theorem rf_lst_lt {T : Nat → Nat} {n c : Nat} {Fi La St : Nat → Nat} (h : rf_lst T n c Fi La St) {r : Nat} : ∀ s, r < s → s < c → rf_lex (Fi r) (St r) (Fi s) (St s)
  | 0, h1, _ => by omega
  | s + 1, h1, h2 => by
    rcases Nat.lt_or_ge r s with q | q
    · exact rf_lex_trans (rf_lst_lt h s q (by omega)) (h.2 s h2)
    · rw [show r = s by omega]; exact h.2 s h2
theorem rf_lst_inj {T : Nat → Nat} {n c : Nat} {Fi La St : Nat → Nat} (h : rf_lst T n c Fi La St) {r s : Nat} (hr : r < c) (hs : s < c) (e1 : Fi r = Fi s) (e2 : St r = St s) : r = s := by
  rcases Nat.lt_trichotomy r s with q | q | q
  · have := rf_lst_lt h s q hs; unfold rf_lex at this; omega
  · exact q
  · have := rf_lst_lt h r q hr; unfold rf_lex at this; omega
/-- AT MOST 2n RUNS -/
theorem rf_lst_le {T : Nat → Nat} {n c : Nat} {Fi La St : Nat → Nat} (h : rf_lst T n c Fi La St) : c ≤ 2 * n := by
  have hex : ∀ r, ∃ x, r < c → ∃ s b, x = s + n * b ∧ s < n ∧ b < 2 ∧ Fi r ≤ s ∧ s < Fi r + St r ∧ rf_ns T n b s (s + St r) := by
    intro r
    rcases Classical.em (r < c) with q | q
    · obtain ⟨s, b, h1, h2, h3, h4⟩ := rf_root (h.1 r q)
      exact ⟨s + n * b, fun _ => ⟨s, b, rfl, by have := h4.1; have := h4.2.1; omega, h3, h1, h2, h4⟩⟩
    · exact ⟨0, fun w => absurd w q⟩
  obtain ⟨f, hf⟩ := Classical.axiomOfChoice hex
  refine rf_pigeon f (fun r hr => ?_) (fun r s hr hs e => ?_)
  · obtain ⟨x, b, e, h1, h2, -⟩ := hf r hr
    have : n * b ≤ n * 1 := Nat.mul_le_mul_left n (by omega)
    omega
  · obtain ⟨x, b, e1, h1, h2, h3, h4, h5⟩ := hf r hr
    obtain ⟨x', b', e1', h1', h2', h3', h4', h5'⟩ := hf s hs
    have hb : b = b' := by
      rcases (show b = 0 ∨ b = 1 by omega) with q | q <;> rcases (show b' = 0 ∨ b' = 1 by omega) with w | w <;> subst q <;> subst w <;> simp at e1 e1' <;> omega
    subst hb
    have hx : x = x' := by omega
    subst hx
    have hk := rf_ns_u h5 h5'
    have hp : St r = St s := by omega
    have R1 := h.1 r hr
    have R2 := h.1 s hs
    rw [← hp] at R2
    have := R1.2.1
    have := R2.2.1
    exact rf_lst_inj h hr hs (rf_run_u R1 R2 h3 h3' (by omega) (by omega)).1 hp
/-- all the runs in order: there is one list -/
theorem rf_all_u {T : Nat → Nat} {n c c' : Nat} {Fi La St Fi' La' St' : Nat → Nat} (h : rf_all T n c Fi La St) (h' : rf_all T n c' Fi' La' St') : c = c' ∧ ∀ r, r < c → Fi r = Fi' r ∧ La r = La' r ∧ St r = St' r := by
  have key : ∀ r, r < c → r < c' → Fi r = Fi' r ∧ St r = St' r := by
    intro r
    induction r using Nat.strongRecOn with
    | _ r ih =>
      intro h1 h2
      obtain ⟨r2, a1, a2, a3, a4⟩ := h'.2 _ _ _ (h.1.1 r h1)
      obtain ⟨r1, b1, b2, b3, b4⟩ := h.2 _ _ _ (h'.1.1 r h2)
      have g2 : r ≤ r2 := by
        rcases Nat.lt_or_ge r2 r with q | q
        · have := ih r2 q (by omega) a1
          have := rf_lst_inj h.1 (r := r2) (s := r) (by omega) h1 (by omega) (by omega)
          omega
        · exact q
      have g1 : r ≤ r1 := by
        rcases Nat.lt_or_ge r1 r with q | q
        · have := ih r1 q b1 (by omega)
          have := rf_lst_inj h'.1 (r := r1) (s := r) (by omega) h2 (by omega) (by omega)
          omega
        · exact q
      have l2 : r = r2 ∨ rf_lex (Fi' r) (St' r) (Fi' r2) (St' r2) := by
        rcases Nat.lt_or_ge r r2 with q | q
        · exact Or.inr (rf_lst_lt h'.1 r2 q a1)
        · exact Or.inl (by omega)
      have l1 : r = r1 ∨ rf_lex (Fi r) (St r) (Fi r1) (St r1) := by
        rcases Nat.lt_or_ge r r1 with q | q
        · exact Or.inr (rf_lst_lt h.1 r1 q b1)
        · exact Or.inl (by omega)
      rcases l2 with q | q
      · subst q; omega
      · rcases l1 with w | w
        · subst w; omega
        · unfold rf_lex at q w; omega
  have hc : c = c' := by
    rcases Nat.lt_trichotomy c c' with q | q | q
    · obtain ⟨r1, b1, b2, b3, b4⟩ := h.2 _ _ _ (h'.1.1 c q)
      have := key r1 b1 (by omega)
      have := rf_lst_inj h'.1 (r := r1) (s := c) (by omega) q (by omega) (by omega)
      omega
    · exact q
    · obtain ⟨r1, b1, b2, b3, b4⟩ := h'.2 _ _ _ (h.1.1 c' q)
      have := key r1 (by omega) b1
      have := rf_lst_inj h.1 (r := r1) (s := c') (by omega) q (by omega) (by omega)
      omega
  refine ⟨hc, fun r hr => ?_⟩
  obtain ⟨e1, e2⟩ := key r hr (by omega)
  have R1 := h.1.1 r hr
  have R2 := h'.1.1 r (by omega)
  rw [← e1, ← e2] at R2
  have := R1.2.1
  have := R2.2.1
  exact ⟨e1, (rf_run_u R1 R2 (Nat.le_refl _) (Nat.le_refl _) (by omega) (by omega)).2, e2⟩
/-- the least period of the piece from i to just before e -/
def rf_lp (T : Nat → Nat) (i e p : Nat) : Prop := 1 ≤ p ∧ i + p ≤ e ∧ rf_per T i e p ∧ ∀ q, 1 ≤ q → q < p → ¬ rf_per T i e q
theorem rf_lp_u {T : Nat → Nat} {i e p p' : Nat} (h : rf_lp T i e p) (h' : rf_lp T i e p') : p = p' := by
  rcases Nat.lt_trichotomy p p' with q | q | q
  · exact absurd h.2.2.1 (h'.2.2.2 p h.1 q)
  · exact q
  · exact absurd h'.2.2.1 (h.2.2.2 p' h'.1 q)
theorem rf_lp_ex {T : Nat → Nat} {i e : Nat} (h : i < e) : ∃ p, rf_lp T i e p := by
  obtain ⟨p, ⟨h1, h2⟩, h3⟩ := pk_least (fun p => 1 ≤ p ∧ rf_per T i e p) ⟨e - i, by omega, fun k a b => by omega⟩
  refine ⟨p, h1, ?_, h2, fun q q1 q2 q3 => h3 q q2 ⟨q1, q3⟩⟩
  rcases Nat.lt_or_ge e (i + p) with w | w
  · exact absurd ⟨by omega, fun k a b => by omega⟩ (h3 (e - i) (by omega))
  · exact w
theorem rf_ext_r {T : Nat → Nat} {n i p : Nat} : ∀ m e, n ≤ e + m → e ≤ n → i + p ≤ e → rf_per T i e p → ∃ e', e ≤ e' ∧ e' ≤ n ∧ rf_per T i e' p ∧ (e' < n → T (e' - p) ≠ T e')
  | 0, e, h1, h2, h3, h4 => ⟨e, Nat.le_refl _, h2, h4, fun w => by omega⟩
  | m + 1, e, h1, h2, h3, h4 => by
    rcases Nat.lt_or_ge e n with q | q
    · by_cases hE : T (e - p) = T e
      · obtain ⟨e', a, b⟩ := rf_ext_r (T := T) (n := n) (i := i) (p := p) m (e + 1) (by omega) (by omega) (by omega) (fun k k1 k2 => by
          rcases Nat.lt_or_ge (k + p) e with w | w
          · exact h4 k k1 w
          · rw [show k = e - p by omega, show e - p + p = e by omega]; exact hE)
        exact ⟨e', by omega, b⟩
      · exact ⟨e, Nat.le_refl _, h2, h4, fun _ => hE⟩
    · exact ⟨e, Nat.le_refl _, h2, h4, fun w => by omega⟩
theorem rf_ext_l {T : Nat → Nat} {e p : Nat} : ∀ i, rf_per T i e p → ∃ i', i' ≤ i ∧ rf_per T i' e p ∧ (0 < i' → T (i' - 1) ≠ T (i' - 1 + p))
  | 0, h => ⟨0, Nat.le_refl _, h, fun w => by omega⟩
  | i + 1, h => by
    by_cases hE : T i = T (i + p)
    · obtain ⟨i', a, b⟩ := rf_ext_l (T := T) (e := e) (p := p) i (fun k k1 k2 => by
        rcases Nat.lt_or_ge i k with w | w
        · exact h k w k2
        · rw [show k = i by omega]; exact hE)
      exact ⟨i', by omega, b⟩
    · exact ⟨i + 1, Nat.le_refl _, h, fun _ => by rw [show i + 1 - 1 = i by omega]; exact hE⟩
/-- a piece as long as two of its least periods lies in a run of that period -/
theorem rf_ext {T : Nat → Nat} {n i e p : Nat} (h : rf_lp T i e p) (h2 : i + 2 * p ≤ e) (hen : e ≤ n) : ∃ i' j', i' ≤ i ∧ e ≤ j' + 1 ∧ rf_run T n i' j' p := by
  obtain ⟨hp, -, hper, hl⟩ := h
  obtain ⟨e', a1, a2, a3, a4⟩ := rf_ext_r (n := n) n e (by omega) hen (by omega) hper
  obtain ⟨i', b1, b2, b3⟩ := rf_ext_l i a3
  refine ⟨i', e' - 1, b1, by omega, hp, by omega, by omega, ?_, b3, ?_, ?_⟩
  · rw [show e' - 1 + 1 = e' by omega]; exact b2
  · intro w
    rw [show e' - 1 + 1 = e' by omega] at w ⊢
    exact a4 w
  · intro q q1 q2 q3
    rw [show e' - 1 + 1 = e' by omega] at q3
    exact hl q q1 q2 (rf_per_mono q3 b1 a1)
/-- a window of two periods within a run has the run's least period -/
theorem rf_in_run {T : Nat → Nat} {n i j q a0 b0 : Nat} (h : rf_run T n i j q) (h1 : i ≤ a0) (h2 : b0 ≤ j + 1) (h3 : a0 + 2 * q ≤ b0) : rf_lp T a0 b0 q := by
  obtain ⟨hq, hsz, hjn, hper, -, -, hleast⟩ := h
  refine ⟨hq, by omega, rf_per_mono hper h1 h2, fun q' q1 q2 q3 => hleast q' q1 q2 (fun y y1 y2 => ?_)⟩
  have hT : ∀ x, i + x < j + 1 → T (i + x) = rf_c T i q x := fun x hx => rf_per_mod hq hper x hx
  have hqa : a0 - i ≤ q * (a0 - i) := Nat.le_mul_of_pos_left _ (by omega)
  have hX := Nat.mod_add_div (y - i + q * (a0 - i) - (a0 - i)) q
  have ht : (y - i + q * (a0 - i) - (a0 - i)) % q < q := Nat.mod_lt _ (by omega)
  generalize (y - i + q * (a0 - i) - (a0 - i)) % q = t at hX ht
  generalize (y - i + q * (a0 - i) - (a0 - i)) / q = d at hX
  have e1 := hT (y - i) (by omega)
  have e2 := hT (y - i + q') (by omega)
  rw [show i + (y - i) = y by omega] at e1
  rw [show i + (y - i + q') = y + q' by omega] at e2
  have e3 := hT (a0 - i + t) (by omega)
  have e4 := hT (a0 - i + t + q') (by omega)
  have e5 := q3 (a0 + t) (by omega) (by omega)
  rw [show a0 + t = i + (a0 - i + t) by omega, show i + (a0 - i + t) + q' = i + (a0 - i + t + q') by omega, e3, e4] at e5
  rw [e1, e2, ← rf_c_add (y - i) (a0 - i), ← rf_c_add (y - i + q') (a0 - i), show y - i + q * (a0 - i) = a0 - i + t + q * d by omega, show y - i + q' + q * (a0 - i) = a0 - i + t + q' + q * d by omega, rf_c_add, rf_c_add]
  exact e5
theorem rf_per_mul {T : Nat → Nat} {i e q : Nat} (h : rf_per T i e q) : ∀ m x, i ≤ x → x + q * m < e → T x = T (x + q * m)
  | 0, x, _, _ => by simp
  | m + 1, x, h1, h2 => by
    rw [Nat.mul_succ] at h2 ⊢
    rw [rf_per_mul h m x h1 (by omega), h (x + q * m) (by omega) (by omega), Nat.add_assoc]
theorem rf_per_dvd {T : Nat → Nat} {i e q p : Nat} (h : rf_per T i e q) (hd : q ∣ p) : rf_per T i e p := by
  obtain ⟨m, rfl⟩ := hd
  exact fun x h1 h2 => rf_per_mul h m x h1 h2
/-- the least period of a square divides its root's length -/
theorem rf_lp_dvd {T : Nat → Nat} {i p q : Nat} (hp : rf_per T i (i + 2 * p) p) (h : rf_lp T i (i + 2 * p) q) (hqp : q ≤ p) : q ∣ p := by
  have hm := Nat.mod_add_div p q
  have hlt : p % q < q := Nat.mod_lt _ h.1
  rcases Nat.eq_zero_or_pos (p % q) with z | z
  · exact Nat.dvd_of_mod_eq_zero z
  · refine absurd (fun x h1 h2 => ?_) (h.2.2.2 (p % q) z hlt)
    generalize p % q = r at hm hlt z h2 ⊢
    generalize p / q = d at hm
    rcases Nat.lt_or_ge (x + p) (i + 2 * p) with w | w
    · have e1 := hp x h1 w
      have e2 := rf_per_mul h.2.2.1 d (x + r) (by omega) (by omega)
      rw [show x + r + q * d = x + p by omega] at e2
      rw [e1, e2]
    · have e1 := hp (x + r - p) (by omega) (by omega)
      rw [show x + r - p + p = x + r by omega] at e1
      have e2 := rf_per_mul h.2.2.1 d (x + r - p) (by omega) (by omega)
      rw [show x + r - p + q * d = x by omega] at e2
      rw [← e1, e2]
/-- squares that begin at a place, each with its least period: as many as runs that reach so far -/
theorem rf_sqFrom {T : Nat → Nat} {n c at0 : Nat} {Fi La St : Nat → Nat} (h : rf_all T n c Fi La St) : rf_sum (fun r => rf_ind (Fi r ≤ at0 ∧ at0 + 2 * St r ≤ La r + 1)) c = rf_sum (fun p => rf_ind (at0 + 2 * p ≤ n ∧ rf_lp T at0 (at0 + 2 * p) p)) (n + 1) := by
  have e1 : ∀ r, r < c → rf_ind (Fi r ≤ at0 ∧ at0 + 2 * St r ≤ La r + 1) = rf_sum (fun p => rf_ind ((Fi r ≤ at0 ∧ at0 + 2 * St r ≤ La r + 1) ∧ p = St r)) (n + 1) := by
    intro r hr
    have hR := h.1.1 r hr
    have := hR.1
    have := hR.2.2.1
    rcases Classical.em (Fi r ≤ at0 ∧ at0 + 2 * St r ≤ La r + 1) with q | q
    · rw [rf_ind_t q, rf_sum_one (P := fun p => (Fi r ≤ at0 ∧ at0 + 2 * St r ≤ La r + 1) ∧ p = St r) (x0 := St r) (n + 1) (by omega) ⟨q, rfl⟩ (fun x _ hx => hx.2)]
    · rw [rf_ind_f q, rf_sum_0 (n + 1) (fun x _ => rf_ind_f (fun w => q w.1))]
  rw [rf_sum_c c e1, rf_sum_comm]
  refine rf_sum_c (n + 1) (fun p hp => ?_)
  rcases Classical.em (at0 + 2 * p ≤ n ∧ rf_lp T at0 (at0 + 2 * p) p) with q | q
  · rw [rf_ind_t q]
    obtain ⟨i', j', a1, a2, a3⟩ := rf_ext q.2 (Nat.le_refl _) q.1
    obtain ⟨r, r1, r2, r3, r4⟩ := h.2 _ _ _ a3
    refine rf_sum_one (P := fun r => (Fi r ≤ at0 ∧ at0 + 2 * St r ≤ La r + 1) ∧ p = St r) (x0 := r) c r1 ⟨⟨by omega, by rw [r4]; omega⟩, r4.symm⟩ (fun x hx hw => ?_)
    have R1 := h.1.1 x hx
    have R2 := h.1.1 r r1
    have e : St x = St r := by omega
    rw [e] at R1
    have := hw.1.2
    exact rf_lst_inj h.1 hx r1 (rf_run_u R1 R2 (s := at0) hw.1.1 (by omega) (by omega) (by omega)).1 e
  · rw [rf_ind_f q]
    refine rf_sum_0 c (fun r hr => rf_ind_f (fun w => q ?_))
    have R1 := h.1.1 r hr
    have := R1.2.2.1
    obtain ⟨⟨w1, w2⟩, w3⟩ := w
    subst w3
    exact ⟨by omega, rf_in_run R1 w1 w2 (Nat.le_refl _)⟩
/-- all squares -/
theorem rf_squares {T : Nat → Nat} {n c : Nat} {Fi La St : Nat → Nat} (h : rf_all T n c Fi La St) : rf_sum (fun i => rf_sum (fun p => rf_ind (1 ≤ p ∧ i + 2 * p ≤ n ∧ rf_per T i (i + 2 * p) p)) (n + 1)) n = rf_sum (fun r => rf_sum (fun p => rf_ind (1 ≤ p ∧ St r ∣ p) * (La r + 2 - (2 * p + Fi r))) (n + 1)) c := by
  have e1 : ∀ i, i < n → rf_sum (fun p => rf_ind (1 ≤ p ∧ i + 2 * p ≤ n ∧ rf_per T i (i + 2 * p) p)) (n + 1) = rf_sum (fun p => rf_sum (fun r => rf_ind ((1 ≤ p ∧ St r ∣ p) ∧ Fi r ≤ i ∧ i + 2 * p ≤ La r + 1)) c) (n + 1) := by
    intro i hi
    refine rf_sum_c (n + 1) (fun p hp => ?_)
    rcases Classical.em (1 ≤ p ∧ i + 2 * p ≤ n ∧ rf_per T i (i + 2 * p) p) with q | q
    · rw [rf_ind_t q]
      obtain ⟨q1, q2, q3⟩ := q
      obtain ⟨d, hd⟩ := rf_lp_ex (T := T) (show i < i + 2 * p by omega)
      have hdp : d ≤ p := by
        rcases Nat.lt_or_ge p d with w | w
        · exact absurd q3 (hd.2.2.2 p q1 w)
        · exact w
      have hdv := rf_lp_dvd q3 hd hdp
      obtain ⟨i', j', a1, a2, a3⟩ := rf_ext hd (by omega) q2
      obtain ⟨r, r1, r2, r3, r4⟩ := h.2 _ _ _ a3
      refine (rf_sum_one (P := fun r => (1 ≤ p ∧ St r ∣ p) ∧ Fi r ≤ i ∧ i + 2 * p ≤ La r + 1) (x0 := r) c r1 ⟨⟨q1, by rw [r4]; exact hdv⟩, by omega, by omega⟩ (fun x hx hw => ?_)).symm
      obtain ⟨⟨-, w1⟩, w2, w3⟩ := hw
      have R1 := h.1.1 x hx
      have R2 := h.1.1 r r1
      have hle := Nat.le_of_dvd (by omega) w1
      have e : St x = St r := by rw [r4]; exact rf_lp_u (rf_in_run R1 w2 w3 (by omega)) hd
      rw [e] at R1
      exact rf_lst_inj h.1 hx r1 (rf_run_u R1 R2 (s := i) w2 (by omega) (by omega) (by omega)).1 e
    · rw [rf_ind_f q]
      refine (rf_sum_0 c (fun r hr => rf_ind_f (fun w => q ?_))).symm
      obtain ⟨⟨w0, w1⟩, w2, w3⟩ := w
      have R1 := h.1.1 r hr
      have := R1.2.2.1
      exact ⟨w0, by omega, rf_per_dvd (rf_per_mono R1.2.2.2.1 w2 w3) w1⟩
  rw [rf_sum_c n e1]
  have e2 : ∀ i, i < n → rf_sum (fun p => rf_sum (fun r => rf_ind ((1 ≤ p ∧ St r ∣ p) ∧ Fi r ≤ i ∧ i + 2 * p ≤ La r + 1)) c) (n + 1) = rf_sum (fun r => rf_sum (fun p => rf_ind ((1 ≤ p ∧ St r ∣ p) ∧ Fi r ≤ i ∧ i + 2 * p ≤ La r + 1)) (n + 1)) c := fun i _ => rf_sum_comm c (n + 1)
  rw [rf_sum_c n e2, rf_sum_comm]
  refine rf_sum_c c (fun r hr => ?_)
  rw [rf_sum_comm]
  refine rf_sum_c (n + 1) (fun p hp => ?_)
  have := (h.1.1 r hr).2.2.1
  rcases Classical.em (1 ≤ p ∧ St r ∣ p) with q | q
  · rw [rf_ind_t q, Nat.one_mul]
    have e3 : rf_sum (fun i => rf_ind ((1 ≤ p ∧ St r ∣ p) ∧ Fi r ≤ i ∧ i + 2 * p ≤ La r + 1)) n = rf_sum (fun i => rf_ind (Fi r ≤ i ∧ i < La r + 2 - 2 * p)) n := rf_sum_c n (fun x hx => rf_ind_c ⟨fun w => ⟨w.2.1, by omega⟩, fun w => ⟨q, w.1, by omega⟩⟩)
    have := q.1
    rw [e3, rf_sum_iv n (by omega)]
    omega
  · rw [rf_ind_f q, Nat.zero_mul]
    exact rf_sum_0 n (fun x _ => rf_ind_f (fun w => q w.1))
/-- one more multiple of the period -/
theorem rf_sq_step {q P size : Nat} (hq : 1 ≤ q) (hP : q ∣ P) (h1 : 1 ≤ P) : rf_sum (fun p => rf_ind (1 ≤ p ∧ q ∣ p) * (size + 1 - 2 * p)) (P + q) = rf_sum (fun p => rf_ind (1 ≤ p ∧ q ∣ p) * (size + 1 - 2 * p)) P + (size + 1 - 2 * P) := by
  have key : ∀ k, k < q → rf_sum (fun p => rf_ind (1 ≤ p ∧ q ∣ p) * (size + 1 - 2 * p)) (P + 1 + k) = rf_sum (fun p => rf_ind (1 ≤ p ∧ q ∣ p) * (size + 1 - 2 * p)) P + (size + 1 - 2 * P) := by
    intro k
    induction k with
    | zero =>
      intro _
      rw [Nat.add_zero, rf_sum, rf_ind_t ⟨h1, hP⟩, Nat.one_mul]
    | succ k ih =>
      intro hk
      rw [show P + 1 + (k + 1) = P + 1 + k + 1 by omega, rf_sum, ih (by omega), rf_ind_f (fun w => ?_), Nat.zero_mul, Nat.add_zero]
      have hd := (Nat.dvd_add_right hP).mp (show q ∣ P + (1 + k) by rw [← Nat.add_assoc]; exact w.2)
      have := Nat.le_of_dvd (by omega) hd
      omega
  have := key (q - 1) (by omega)
  rw [show P + 1 + (q - 1) = P + q by omega] at this
  exact this
theorem rf_sq_end {q P size N : Nat} (h : size < 2 * P) (hN : size < 2 * N) : rf_sum (fun p => rf_ind (1 ≤ p ∧ q ∣ p) * (size + 1 - 2 * p)) P = rf_sum (fun p => rf_ind (1 ≤ p ∧ q ∣ p) * (size + 1 - 2 * p)) N := by
  rcases Nat.lt_or_ge P N with w | w
  · exact (rf_sum_tail N (fun x hx => by rw [show size + 1 - 2 * x = 0 by omega, Nat.mul_zero]) (by omega)).symm
  · exact rf_sum_tail P (fun x hx => by rw [show size + 1 - 2 * x = 0 by omega, Nat.mul_zero]) w
theorem rf_sq_first {q size : Nat} (hq : 1 ≤ q) : rf_sum (fun p => rf_ind (1 ≤ p ∧ q ∣ p) * (size + 1 - 2 * p)) q = 0 := rf_sum_0 q (fun x hx => by
  rw [rf_ind_f (fun w => by have := Nat.le_of_dvd (by omega) w.2; omega), Nat.zero_mul])
/-- the least period of a piece out of the runs about it -/
theorem rf_perOf {T : Nat → Nat} {n c i j p best : Nat} {Fi La St : Nat → Nat} (h : rf_all T n c Fi La St) (hij : i ≤ j) (hjn : j < n) (hp : rf_lp T i (j + 1) p)
    (hb : (best = 0 ∧ ∀ r, r < c → ¬ (Fi r ≤ i ∧ j ≤ La r ∧ 2 * St r ≤ j - i + 1)) ∨ ((∃ r, r < c ∧ (Fi r ≤ i ∧ j ≤ La r ∧ 2 * St r ≤ j - i + 1) ∧ St r = best) ∧ ∀ r, r < c → Fi r ≤ i ∧ j ≤ La r ∧ 2 * St r ≤ j - i + 1 → best ≤ St r)) : best = if 2 * p ≤ j - i + 1 then p else 0 := by
  split
  · rename_i h2
    obtain ⟨i', j', a1, a2, a3⟩ := rf_ext (n := n) hp (by omega) (by omega)
    obtain ⟨r, r1, r2, r3, r4⟩ := h.2 _ _ _ a3
    rcases hb with ⟨-, b2⟩ | ⟨⟨r', b1, b2, b3⟩, b4⟩
    · exact absurd ⟨by omega, by omega, by omega⟩ (b2 r r1)
    · have g1 := b4 r r1 ⟨by omega, by omega, by omega⟩
      have R := rf_in_run (h.1.1 r' b1) b2.1 (b0 := j + 1) (by omega) (by omega)
      have := rf_lp_u R hp
      omega
  · rename_i h2
    rcases hb with ⟨b1, -⟩ | ⟨⟨r', b1, b2, b3⟩, b4⟩
    · exact b1
    · have R := rf_in_run (h.1.1 r' b1) b2.1 (b0 := j + 1) (by omega) (by omega)
      have := rf_lp_u R hp
      omega
end
section
/-! the list of runs as it is made: no program in sight -/
def rf_has (c : Nat) (Fi La St : Nat → Nat) (i j p : Nat) : Prop := ∃ r, r < c ∧ Fi r = i ∧ La r = j ∧ St r = p
/-- every run that has its root at s is in the list -/
def rf_fnd (T : Nat → Nat) (n b s c : Nat) (Fi La St : Nat → Nat) : Prop := ∀ i j p, rf_run T n i j p → i ≤ s → s < i + p → rf_ns T n b s (s + p) → rf_has c Fi La St i j p
theorem rf_fnd_mono {T : Nat → Nat} {n b s c c' : Nat} {Fi La St Fi' La' St' : Nat → Nat} (h : rf_fnd T n b s c Fi La St) (hm : ∀ i j p, rf_has c Fi La St i j p → rf_has c' Fi' La' St' i j p) : rf_fnd T n b s c' Fi' La' St' := fun i j p h1 h2 h3 h4 => hm i j p (h i j p h1 h2 h3 h4)
theorem rf_B_u {T : Nat → Nat} {i j k k' : Nat} (h : rf_B T i j k) (h' : rf_B T i j k') : k = k' := by
  rcases Nat.lt_trichotomy k k' with q | q | q
  · exact absurd (h'.1 k q) h.2
  · exact q
  · exact absurd (h.1 k' q) h'.2
/-- a run is what its root is widened to -/
theorem rf_wid_u {T : Nat → Nat} {n i j p s lf r : Nat} (h : rf_run T n i j p) (h1 : i ≤ s) (h2 : s < i + p) (hF : rf_F T n s (s + p) r) (hB : rf_B T s (s + p) lf) : lf = s - i ∧ r = j + 1 - (s + p) := by
  obtain ⟨hp, hsz, hjn, hper, hL, hR, -⟩ := h
  constructor
  · refine rf_B_u hB ⟨fun t ht => ⟨by omega, by omega, ?_⟩, fun w => ?_⟩
    · have := hper (s - 1 - t) (by omega) (by omega)
      rw [this]
      congr 1
      omega
    · refine hL (by omega) ?_
      have e := w.2.2
      rw [show s - 1 - (s - i) = i - 1 by omega, show s + p - 1 - (s - i) = i - 1 + p by omega] at e
      exact e
  · refine rf_F_u hF ⟨fun t ht => ⟨by omega, by omega, ?_⟩, fun w => ?_⟩
    · have := hper (s + t) (by omega) (by omega)
      rw [this]
      congr 1
      omega
    · refine hR (by omega) ?_
      have e := w.2.2
      rw [show s + (j + 1 - (s + p)) = j + 1 - p by omega, show s + p + (j + 1 - (s + p)) = j + 1 by omega] at e
      exact e
theorem rf_fnd_of {T : Nat → Nat} {n b s k lf r c : Nat} {Fi La St : Nat → Nat} (hns : rf_ns T n b s k) (hF : rf_F T n s k r) (hB : rf_B T s k lf) (h : k - s ≤ lf + r → rf_has c Fi La St (s - lf) (k + r - 1) (k - s)) : rf_fnd T n b s c Fi La St := by
  intro i j p h1 h2 h3 h4
  have e := rf_ns_u hns h4
  subst e
  obtain ⟨e1, e2⟩ := rf_wid_u h1 h2 h3 hF hB
  have := h1.2.1
  have := h1.1
  have g := h (by omega)
  rw [show s - lf = i by omega, show s + p + r - 1 = j by omega, show s + p - s = p by omega] at g
  exact g
theorem rf_all_of {T : Nat → Nat} {n c : Nat} {Fi La St : Nat → Nat} (h : rf_lst T n c Fi La St) (hf : ∀ b, b < 2 → ∀ s, s < n → rf_fnd T n b s c Fi La St) : rf_all T n c Fi La St := by
  refine ⟨h, fun i j p hr => ?_⟩
  obtain ⟨s, b, h1, h2, h3, h4⟩ := rf_root hr
  exact hf b h3 s (by have := h4.1; have := h4.2.1; omega) i j p hr h1 h2 h4
theorem rf_lst_0 {T : Nat → Nat} {n : Nat} {Fi La St : Nat → Nat} : rf_lst T n 0 Fi La St := ⟨fun r h => by omega, fun r h => by omega⟩
/-- the places behind y moved up by one -/
def rf_sh (F : Nat → Nat) (y c : Nat) : Nat → Nat := fun z => if y < z ∧ z ≤ c then F (z - 1) else F z
theorem rf_sh_self (F : Nat → Nat) (c : Nat) : rf_sh F c c = F := by
  funext z
  unfold rf_sh
  rw [if_neg (by omega)]
theorem rf_sh_step {F : Nat → Nat} {y c : Nat} (h : 0 < y) (h2 : y ≤ c) : upN (rf_sh F y c) y (rf_sh F y c (y - 1)) = rf_sh F (y - 1) c := by
  funext z
  unfold upN rf_sh
  by_cases e : z = y
  · subst e
    rw [if_pos rfl, if_neg (by omega), if_pos (by omega)]
  · rw [if_neg e]
    by_cases q : y < z ∧ z ≤ c
    · rw [if_pos q, if_pos (by omega)]
    · rw [if_neg q, if_neg (by omega)]
theorem rf_in_at {F : Nat → Nat} {x c v z : Nat} (hz : z ≤ c) : (z < x → upN (rf_sh F x c) x v z = F z) ∧ (z = x → upN (rf_sh F x c) x v z = v) ∧ (x < z → upN (rf_sh F x c) x v z = F (z - 1)) := by
  refine ⟨fun h => ?_, fun h => ?_, fun h => ?_⟩
  · unfold upN rf_sh; rw [if_neg (by omega), if_neg (by omega)]
  · unfold upN; rw [if_pos h]
  · unfold upN rf_sh; rw [if_neg (by omega), if_pos (by omega)]
/-- a new run goes to its place -/
theorem rf_ins {T : Nat → Nat} {n c i j p x : Nat} {Fi La St : Nat → Nat} (h : rf_lst T n c Fi La St) (hr : rf_run T n i j p) (hx : x ≤ c) (hgt : ∀ r, x ≤ r → r < c → rf_lex i p (Fi r) (St r)) (hlt : x = 0 ∨ rf_lex (Fi (x - 1)) (St (x - 1)) i p) :
    rf_lst T n (c + 1) (upN (rf_sh Fi x c) x i) (upN (rf_sh La x c) x j) (upN (rf_sh St x c) x p) ∧ (∀ i' j' p', rf_has c Fi La St i' j' p' → rf_has (c + 1) (upN (rf_sh Fi x c) x i) (upN (rf_sh La x c) x j) (upN (rf_sh St x c) x p) i' j' p') ∧ rf_has (c + 1) (upN (rf_sh Fi x c) x i) (upN (rf_sh La x c) x j) (upN (rf_sh St x c) x p) i j p := by
  refine ⟨⟨fun r hrc => ?_, fun r hrc => ?_⟩, fun i' j' p' hh => ?_, ⟨x, by omega, (rf_in_at hx).2.1 rfl, (rf_in_at hx).2.1 rfl, (rf_in_at hx).2.1 rfl⟩⟩
  · have hz : r ≤ c := by omega
    rcases Nat.lt_trichotomy r x with q | q | q
    · rw [(rf_in_at hz).1 q, (rf_in_at hz).1 q, (rf_in_at hz).1 q]; exact h.1 r (by omega)
    · rw [(rf_in_at hz).2.1 q, (rf_in_at hz).2.1 q, (rf_in_at hz).2.1 q]; exact hr
    · rw [(rf_in_at hz).2.2 q, (rf_in_at hz).2.2 q, (rf_in_at hz).2.2 q]; exact h.1 (r - 1) (by omega)
  · have hz : r ≤ c := by omega
    have hz1 : r + 1 ≤ c := by omega
    rcases Nat.lt_trichotomy (r + 1) x with q | q | q
    · rw [(rf_in_at hz).1 (by omega), (rf_in_at hz).1 (by omega), (rf_in_at hz1).1 q, (rf_in_at hz1).1 q]; exact h.2 r (by omega)
    · rw [(rf_in_at hz).1 (by omega), (rf_in_at hz).1 (by omega), (rf_in_at hz1).2.1 q, (rf_in_at hz1).2.1 q]
      rcases hlt with w | w
      · omega
      · rw [show x - 1 = r by omega] at w; exact w
    · rcases Nat.lt_or_ge x r with w | w
      · rw [(rf_in_at hz).2.2 w, (rf_in_at hz).2.2 w, (rf_in_at hz1).2.2 q, (rf_in_at hz1).2.2 q]
        have := h.2 (r - 1) (by omega)
        rw [show r - 1 + 1 = r by omega] at this
        exact this
      · rw [(rf_in_at hz).2.1 (by omega), (rf_in_at hz).2.1 (by omega), (rf_in_at hz1).2.2 q, (rf_in_at hz1).2.2 q]
        exact hgt _ (by omega) (by omega)
  · obtain ⟨r, r1, r2, r3, r4⟩ := hh
    rcases Nat.lt_or_ge r x with q | q
    · exact ⟨r, by omega, by rw [(rf_in_at (by omega)).1 q, r2], by rw [(rf_in_at (by omega)).1 q, r3], by rw [(rf_in_at (by omega)).1 q, r4]⟩
    · exact ⟨r + 1, by omega, by rw [(rf_in_at (by omega)).2.2 (by omega)]; exact r2, by rw [(rf_in_at (by omega)).2.2 (by omega)]; exact r3, by rw [(rf_in_at (by omega)).2.2 (by omega)]; exact r4⟩
end
section
/-! what each call answers, and what text it leaves: one word a call, for both classes -/
def rf_pl (n : Nat) (p0 : Int32) : Prop := 0 ≤ p0.toInt ∧ p0.toInt < (n : Int)
theorem rf_pl_nI {n j : Nat} (h : j < 2 ^ 31) : rf_pl n (nI j) ↔ j < n := by unfold rf_pl; rw [nI_toInt h]; omega
def rf_cp (T : Nat → Nat) (n f : Nat) : Nat → Nat → Nat
  | 0 => T
  | k + 1 => upN (rf_cp T n f k) (n + k) (rf_cp T n f k (f + k))
def rf_rev (T : Nat → Nat) (n : Nat) : Nat → Nat := fun x => if x < n then T (n - 1 - x) else T x
def rf_max (f : Nat → Nat) : Nat → Nat
  | 0 => 0
  | x + 1 => if rf_max f x < f x then f x else rf_max f x
def rf_aPush (T : Nat → Nat) (n : Nat) (p0 : Int32) (r : Int32) (T' : Nat → Nat) (n' : Nat) : Prop :=
  (¬ (0 ≤ p0.toInt ∧ p0.toInt ≤ 3) ∧ r = -1 ∧ T' = T ∧ n' = n) ∨ ((0 ≤ p0.toInt ∧ p0.toInt ≤ 3) ∧ n = 48 ∧ r = -2 ∧ T' = T ∧ n' = n) ∨ ∃ v : Nat, p0 = nI v ∧ v ≤ 3 ∧ n ≠ 48 ∧ r = nI (n + 1) ∧ T' = upN T n v ∧ n' = n + 1
def rf_aPop (T : Nat → Nat) (n : Nat) (p0 : Int32) (r : Int32) (T' : Nat → Nat) (n' : Nat) : Prop :=
  (¬ (0 ≤ p0.toInt ∧ p0.toInt ≤ (n : Int)) ∧ r = -1 ∧ T' = T ∧ n' = n) ∨ ∃ v : Nat, p0 = nI v ∧ v ≤ n ∧ r = nI (n - v) ∧ T' = T ∧ n' = n - v
def rf_aRep (T : Nat → Nat) (n : Nat) (p0 p1 : Int32) (r : Int32) (T' : Nat → Nat) (n' : Nat) : Prop :=
  (¬ rf_pl n p0 ∧ r = -1 ∧ T' = T ∧ n' = n) ∨ (rf_pl n p0 ∧ ¬ (1 ≤ p1.toInt ∧ p1.toInt ≤ 48) ∧ r = -2 ∧ T' = T ∧ n' = n) ∨ (rf_pl n p0 ∧ (1 ≤ p1.toInt ∧ p1.toInt ≤ 48) ∧ 48 < (n : Int) + p1.toInt ∧ r = -3 ∧ T' = T ∧ n' = n) ∨ ∃ f v : Nat, p0 = nI f ∧ f < n ∧ p1 = nI v ∧ 1 ≤ v ∧ n + v ≤ 48 ∧ r = nI (n + v) ∧ T' = rf_cp T n f v ∧ n' = n + v
def rf_aSet (T : Nat → Nat) (n : Nat) (p0 p1 : Int32) (r : Int32) (T' : Nat → Nat) (n' : Nat) : Prop :=
  (¬ rf_pl n p0 ∧ r = -1 ∧ T' = T ∧ n' = n) ∨ (rf_pl n p0 ∧ ¬ (0 ≤ p1.toInt ∧ p1.toInt ≤ 3) ∧ r = -2 ∧ T' = T ∧ n' = n) ∨ ∃ f v : Nat, p0 = nI f ∧ f < n ∧ p1 = nI v ∧ v ≤ 3 ∧ r = nI (T f) ∧ T' = upN T f v ∧ n' = n
def rf_aRev (T : Nat → Nat) (n : Nat) (r : Int32) (T' : Nat → Nat) (n' : Nat) : Prop := r = nI n ∧ T' = rf_rev T n ∧ n' = n
def rf_aLen (n : Nat) (r : Int32) : Prop := r = nI n
def rf_aSym (T : Nat → Nat) (n : Nat) (p0 r : Int32) : Prop := (¬ rf_pl n p0 ∧ r = -1) ∨ ∃ f : Nat, p0 = nI f ∧ f < n ∧ r = nI (T f)
def rf_aRuns (T : Nat → Nat) (n : Nat) (r : Int32) : Prop := ∃ (c : Nat) (Fi La St : Nat → Nat), rf_all T n c Fi La St ∧ r = nI c
def rf_aSta (T : Nat → Nat) (n : Nat) (p0 r : Int32) : Prop := ∃ (c : Nat) (Fi La St : Nat → Nat), rf_all T n c Fi La St ∧ rf_aSym Fi c p0 r
def rf_aEnd (T : Nat → Nat) (n : Nat) (p0 r : Int32) : Prop := ∃ (c : Nat) (Fi La St : Nat → Nat), rf_all T n c Fi La St ∧ rf_aSym La c p0 r
def rf_aPer (T : Nat → Nat) (n : Nat) (p0 r : Int32) : Prop := ∃ (c : Nat) (Fi La St : Nat → Nat), rf_all T n c Fi La St ∧ rf_aSym St c p0 r
def rf_aRAt (T : Nat → Nat) (n : Nat) (p0 r : Int32) : Prop := (¬ rf_pl n p0 ∧ r = -1) ∨ ∃ f : Nat, p0 = nI f ∧ f < n ∧ ∃ (c : Nat) (Fi La St : Nat → Nat), rf_all T n c Fi La St ∧ r = nI (rf_sum (fun x => rf_ind (Fi x ≤ f ∧ f ≤ La x)) c)
def rf_aSqF (T : Nat → Nat) (n : Nat) (p0 r : Int32) : Prop := (¬ rf_pl n p0 ∧ r = -1) ∨ ∃ f : Nat, p0 = nI f ∧ f < n ∧ r = nI (rf_sum (fun p => rf_ind (f + 2 * p ≤ n ∧ rf_lp T f (f + 2 * p) p)) (n + 1))
def rf_aSq (T : Nat → Nat) (n : Nat) (r : Int32) : Prop := r = nI (rf_sum (fun i => rf_sum (fun p => rf_ind (1 ≤ p ∧ i + 2 * p ≤ n ∧ rf_per T i (i + 2 * p) p)) (n + 1)) n)
def rf_aPOf (T : Nat → Nat) (n : Nat) (p0 p1 r : Int32) : Prop := (¬ (rf_pl n p0 ∧ rf_pl n p1 ∧ p0.toInt ≤ p1.toInt) ∧ r = -1) ∨ ∃ i j p : Nat, p0 = nI i ∧ p1 = nI j ∧ i ≤ j ∧ j < n ∧ rf_lp T i (j + 1) p ∧ r = nI (if 2 * p ≤ j - i + 1 then p else 0)
def rf_aLong (T : Nat → Nat) (n : Nat) (r : Int32) : Prop := ∃ (c : Nat) (Fi La St : Nat → Nat), rf_all T n c Fi La St ∧ r = nI (rf_max (fun x => La x - Fi x + 1) c)
def rf_aPow (T : Nat → Nat) (n : Nat) (r : Int32) : Prop := ∃ (c : Nat) (Fi La St : Nat → Nat), rf_all T n c Fi La St ∧ r = nI (rf_max (fun x => (La x - Fi x + 1) / St x) c)
def rf_aCom (T : Nat → Nat) (n : Nat) (p0 p1 r : Int32) : Prop := (¬ (rf_pl n p0 ∧ rf_pl n p1) ∧ r = -1) ∨ ∃ i j k : Nat, p0 = nI i ∧ i < n ∧ p1 = nI j ∧ j < n ∧ rf_F T n i j k ∧ r = nI k
def rf_aNS (T : Nat → Nat) (n : Nat) (p0 r : Int32) : Prop := (¬ rf_pl n p0 ∧ r = -1) ∨ ∃ i k : Nat, p0 = nI i ∧ i < n ∧ rf_ns T n 1 i k ∧ r = nI k
/-! one answer each -/
theorem rf_nIj {a b : Nat} (ha : a < 2 ^ 31) (hb : b < 2 ^ 31) (h : nI a = nI b) : a = b := (nI_eq ha hb).mp h
theorem rf_uPush {T : Nat → Nat} {n : Nat} {p0 r r' : Int32} {T1 T2 : Nat → Nat} {n1 n2 : Nat} (h : rf_aPush T n p0 r T1 n1) (h' : rf_aPush T n p0 r' T2 n2) : r = r' ∧ T1 = T2 ∧ n1 = n2 := by
  rcases h with ⟨a0, rfl, rfl, rfl⟩ | ⟨a0, a1, rfl, rfl, rfl⟩ | ⟨v, rfl, a1, a2, rfl, rfl, rfl⟩ <;> rcases h' with ⟨b0, rfl, rfl, rfl⟩ | ⟨b0, b1, rfl, rfl, rfl⟩ | ⟨w, b1, b2, b3, rfl, rfl, rfl⟩
  · exact ⟨rfl, rfl, rfl⟩
  · exact absurd b0 a0
  · subst b1; exact absurd (by rw [nI_toInt (by omega)]; omega) a0
  · exact absurd a0 b0
  · exact ⟨rfl, rfl, rfl⟩
  · exact absurd a1 b3
  · exact absurd (by rw [nI_toInt (by omega)]; omega) b0
  · exact absurd b1 a2
  · rw [rf_nIj (by omega) (by omega) b1]; exact ⟨rfl, rfl, rfl⟩
theorem rf_uPop {T : Nat → Nat} {n : Nat} (hn : n ≤ 48) {p0 r r' : Int32} {T1 T2 : Nat → Nat} {n1 n2 : Nat} (h : rf_aPop T n p0 r T1 n1) (h' : rf_aPop T n p0 r' T2 n2) : r = r' ∧ T1 = T2 ∧ n1 = n2 := by
  rcases h with ⟨a0, rfl, rfl, rfl⟩ | ⟨v, rfl, a1, rfl, rfl, rfl⟩ <;> rcases h' with ⟨b0, rfl, rfl, rfl⟩ | ⟨w, b1, b2, rfl, rfl, rfl⟩
  · exact ⟨rfl, rfl, rfl⟩
  · subst b1; exact absurd (by rw [nI_toInt (by omega)]; omega) a0
  · exact absurd (by rw [nI_toInt (by omega)]; omega) b0
  · rw [rf_nIj (by omega) (by omega) b1]; exact ⟨rfl, rfl, rfl⟩
theorem rf_uRep {T : Nat → Nat} {n : Nat} (hn : n ≤ 48) {p0 p1 r r' : Int32} {T1 T2 : Nat → Nat} {n1 n2 : Nat} (h : rf_aRep T n p0 p1 r T1 n1) (h' : rf_aRep T n p0 p1 r' T2 n2) : r = r' ∧ T1 = T2 ∧ n1 = n2 := by
  rcases h with ⟨a0, rfl, rfl, rfl⟩ | ⟨a0, a1, rfl, rfl, rfl⟩ | ⟨a0, a1, a2, rfl, rfl, rfl⟩ | ⟨f, v, rfl, a1, rfl, a2, a3, rfl, rfl, rfl⟩ <;> rcases h' with ⟨b0, rfl, rfl, rfl⟩ | ⟨b0, b1, rfl, rfl, rfl⟩ | ⟨b0, b1, b2, rfl, rfl, rfl⟩ | ⟨g, w, b0, b1, b2, b3, b4, rfl, rfl, rfl⟩
  · exact ⟨rfl, rfl, rfl⟩
  · exact absurd b0 a0
  · exact absurd b0 a0
  · subst b0; exact absurd ((rf_pl_nI (by omega)).mpr b1) a0
  · exact absurd a0 b0
  · exact ⟨rfl, rfl, rfl⟩
  · exact absurd b1 a1
  · subst b2; exact absurd (by rw [nI_toInt (by omega)]; omega) a1
  · exact absurd a0 b0
  · exact absurd a1 b1
  · exact ⟨rfl, rfl, rfl⟩
  · subst b2; rw [nI_toInt (by omega)] at a2; omega
  · exact absurd ((rf_pl_nI (by omega)).mpr a1) b0
  · exact absurd (by rw [nI_toInt (by omega)]; omega) b1
  · rw [nI_toInt (by omega)] at b2; omega
  · rw [rf_nIj (by omega) (by omega) b0, rf_nIj (by omega) (by omega) b2]; exact ⟨rfl, rfl, rfl⟩
theorem rf_uSet {T : Nat → Nat} {n : Nat} (hn : n ≤ 48) {p0 p1 r r' : Int32} {T1 T2 : Nat → Nat} {n1 n2 : Nat} (h : rf_aSet T n p0 p1 r T1 n1) (h' : rf_aSet T n p0 p1 r' T2 n2) : r = r' ∧ T1 = T2 ∧ n1 = n2 := by
  rcases h with ⟨a0, rfl, rfl, rfl⟩ | ⟨a0, a1, rfl, rfl, rfl⟩ | ⟨f, v, rfl, a1, rfl, a2, rfl, rfl, rfl⟩ <;> rcases h' with ⟨b0, rfl, rfl, rfl⟩ | ⟨b0, b1, rfl, rfl, rfl⟩ | ⟨g, w, b0, b1, b2, b3, rfl, rfl, rfl⟩
  · exact ⟨rfl, rfl, rfl⟩
  · exact absurd b0 a0
  · subst b0; exact absurd ((rf_pl_nI (by omega)).mpr b1) a0
  · exact absurd a0 b0
  · exact ⟨rfl, rfl, rfl⟩
  · subst b2; exact absurd (by rw [nI_toInt (by omega)]; omega) a1
  · exact absurd ((rf_pl_nI (by omega)).mpr a1) b0
  · exact absurd (by rw [nI_toInt (by omega)]; omega) b1
  · rw [rf_nIj (by omega) (by omega) b0, rf_nIj (by omega) (by omega) b2]; exact ⟨rfl, rfl, rfl⟩
theorem rf_uRev {T : Nat → Nat} {n : Nat} {r r' : Int32} {T1 T2 : Nat → Nat} {n1 n2 : Nat} (h : rf_aRev T n r T1 n1) (h' : rf_aRev T n r' T2 n2) : r = r' ∧ T1 = T2 ∧ n1 = n2 := by
  obtain ⟨rfl, rfl, rfl⟩ := h
  obtain ⟨rfl, rfl, rfl⟩ := h'
  exact ⟨rfl, rfl, rfl⟩
theorem rf_uLen {n : Nat} {r r' : Int32} (h : rf_aLen n r) (h' : rf_aLen n r') : r = r' := h.trans h'.symm
theorem rf_uSym {T T' : Nat → Nat} {n : Nat} (hn : n ≤ 1000) (hT : ∀ x, x < n → T x = T' x) {p0 r r' : Int32} (h : rf_aSym T n p0 r) (h' : rf_aSym T' n p0 r') : r = r' := by
  rcases h with ⟨a0, rfl⟩ | ⟨f, rfl, a1, rfl⟩ <;> rcases h' with ⟨b0, rfl⟩ | ⟨g, b0, b1, rfl⟩
  · rfl
  · subst b0; exact absurd ((rf_pl_nI (by omega)).mpr b1) a0
  · exact absurd ((rf_pl_nI (by omega)).mpr a1) b0
  · rw [rf_nIj (by omega) (by omega) b0, hT g b1]
theorem rf_uRuns {T : Nat → Nat} {n : Nat} {r r' : Int32} (h : rf_aRuns T n r) (h' : rf_aRuns T n r') : r = r' := by
  obtain ⟨c, Fi, La, St, h1, rfl⟩ := h
  obtain ⟨c', Fi', La', St', h2, rfl⟩ := h'
  rw [(rf_all_u h1 h2).1]
theorem rf_uSta {T : Nat → Nat} {n : Nat} (hn : n ≤ 48) {p0 r r' : Int32} (h : rf_aSta T n p0 r) (h' : rf_aSta T n p0 r') : r = r' := by
  obtain ⟨c, Fi, La, St, h1, g1⟩ := h
  obtain ⟨c', Fi', La', St', h2, g2⟩ := h'
  obtain ⟨rfl, e⟩ := rf_all_u h1 h2
  exact rf_uSym (by have := rf_lst_le h1.1; omega) (fun x hx => (e x hx).1) g1 g2
theorem rf_uEnd {T : Nat → Nat} {n : Nat} (hn : n ≤ 48) {p0 r r' : Int32} (h : rf_aEnd T n p0 r) (h' : rf_aEnd T n p0 r') : r = r' := by
  obtain ⟨c, Fi, La, St, h1, g1⟩ := h
  obtain ⟨c', Fi', La', St', h2, g2⟩ := h'
  obtain ⟨rfl, e⟩ := rf_all_u h1 h2
  exact rf_uSym (by have := rf_lst_le h1.1; omega) (fun x hx => (e x hx).2.1) g1 g2
theorem rf_uPer {T : Nat → Nat} {n : Nat} (hn : n ≤ 48) {p0 r r' : Int32} (h : rf_aPer T n p0 r) (h' : rf_aPer T n p0 r') : r = r' := by
  obtain ⟨c, Fi, La, St, h1, g1⟩ := h
  obtain ⟨c', Fi', La', St', h2, g2⟩ := h'
  obtain ⟨rfl, e⟩ := rf_all_u h1 h2
  exact rf_uSym (by have := rf_lst_le h1.1; omega) (fun x hx => (e x hx).2.2) g1 g2
theorem rf_uRAt {T : Nat → Nat} {n : Nat} (hn : n ≤ 48) {p0 r r' : Int32} (h : rf_aRAt T n p0 r) (h' : rf_aRAt T n p0 r') : r = r' := by
  rcases h with ⟨a0, rfl⟩ | ⟨f, rfl, a1, c, Fi, La, St, h1, rfl⟩ <;> rcases h' with ⟨b0, rfl⟩ | ⟨g, b0, b1, c', Fi', La', St', h2, rfl⟩
  · rfl
  · subst b0; exact absurd ((rf_pl_nI (by omega)).mpr b1) a0
  · exact absurd ((rf_pl_nI (by omega)).mpr a1) b0
  · have e0 := rf_nIj (by omega) (by omega) b0
    subst e0
    obtain ⟨rfl, e⟩ := rf_all_u h1 h2
    rw [rf_sum_c c (fun x hx => by rw [(e x hx).1, (e x hx).2.1])]
theorem rf_uSqF {T : Nat → Nat} {n : Nat} (hn : n ≤ 48) {p0 r r' : Int32} (h : rf_aSqF T n p0 r) (h' : rf_aSqF T n p0 r') : r = r' := by
  rcases h with ⟨a0, rfl⟩ | ⟨f, rfl, a1, rfl⟩ <;> rcases h' with ⟨b0, rfl⟩ | ⟨g, b0, b1, rfl⟩
  · rfl
  · subst b0; exact absurd ((rf_pl_nI (by omega)).mpr b1) a0
  · exact absurd ((rf_pl_nI (by omega)).mpr a1) b0
  · rw [rf_nIj (by omega) (by omega) b0]
theorem rf_uSq {T : Nat → Nat} {n : Nat} {r r' : Int32} (h : rf_aSq T n r) (h' : rf_aSq T n r') : r = r' := h.trans h'.symm
theorem rf_uPOf {T : Nat → Nat} {n : Nat} (hn : n ≤ 48) {p0 p1 r r' : Int32} (h : rf_aPOf T n p0 p1 r) (h' : rf_aPOf T n p0 p1 r') : r = r' := by
  rcases h with ⟨a0, rfl⟩ | ⟨i, j, p, rfl, rfl, a1, a2, a3, rfl⟩ <;> rcases h' with ⟨b0, rfl⟩ | ⟨i', j', p', b0, b1, b2, b3, b4, rfl⟩
  · rfl
  · subst b0; subst b1; exact absurd ⟨(rf_pl_nI (by omega)).mpr (by omega), (rf_pl_nI (by omega)).mpr b3, by rw [nI_toInt (by omega), nI_toInt (by omega)]; omega⟩ a0
  · exact absurd ⟨(rf_pl_nI (by omega)).mpr (by omega), (rf_pl_nI (by omega)).mpr a2, by rw [nI_toInt (by omega), nI_toInt (by omega)]; omega⟩ b0
  · have e0 := rf_nIj (by omega) (by omega) b0
    have e1 := rf_nIj (by omega) (by omega) b1
    subst e0
    subst e1
    rw [rf_lp_u a3 b4]
theorem rf_max_c {f g : Nat → Nat} : ∀ n, (∀ x, x < n → f x = g x) → rf_max f n = rf_max g n
  | 0, _ => rfl
  | n + 1, h => by rw [rf_max, rf_max, rf_max_c n (fun x hx => h x (by omega)), h n (by omega)]
theorem rf_uLong {T : Nat → Nat} {n : Nat} {r r' : Int32} (h : rf_aLong T n r) (h' : rf_aLong T n r') : r = r' := by
  obtain ⟨c, Fi, La, St, h1, rfl⟩ := h
  obtain ⟨c', Fi', La', St', h2, rfl⟩ := h'
  obtain ⟨rfl, e⟩ := rf_all_u h1 h2
  rw [rf_max_c c (fun x hx => by rw [(e x hx).1, (e x hx).2.1])]
theorem rf_uPow {T : Nat → Nat} {n : Nat} {r r' : Int32} (h : rf_aPow T n r) (h' : rf_aPow T n r') : r = r' := by
  obtain ⟨c, Fi, La, St, h1, rfl⟩ := h
  obtain ⟨c', Fi', La', St', h2, rfl⟩ := h'
  obtain ⟨rfl, e⟩ := rf_all_u h1 h2
  rw [rf_max_c c (fun x hx => by rw [(e x hx).1, (e x hx).2.1, (e x hx).2.2])]
theorem rf_uCom {T : Nat → Nat} {n : Nat} (hn : n ≤ 48) {p0 p1 r r' : Int32} (h : rf_aCom T n p0 p1 r) (h' : rf_aCom T n p0 p1 r') : r = r' := by
  rcases h with ⟨a0, rfl⟩ | ⟨i, j, k, rfl, a1, rfl, a2, a3, rfl⟩ <;> rcases h' with ⟨b0, rfl⟩ | ⟨i', j', k', b0, b1, b2, b3, b4, rfl⟩
  · rfl
  · subst b0; subst b2; exact absurd ⟨(rf_pl_nI (by omega)).mpr b1, (rf_pl_nI (by omega)).mpr b3⟩ a0
  · exact absurd ⟨(rf_pl_nI (by omega)).mpr a1, (rf_pl_nI (by omega)).mpr a2⟩ b0
  · have e0 := rf_nIj (by omega) (by omega) b0
    have e1 := rf_nIj (by omega) (by omega) b2
    subst e0
    subst e1
    rw [rf_F_u a3 b4]
theorem rf_uNS {T : Nat → Nat} {n : Nat} (hn : n ≤ 48) {p0 r r' : Int32} (h : rf_aNS T n p0 r) (h' : rf_aNS T n p0 r') : r = r' := by
  rcases h with ⟨a0, rfl⟩ | ⟨i, k, rfl, a1, a2, rfl⟩ <;> rcases h' with ⟨b0, rfl⟩ | ⟨i', k', b0, b1, b2, rfl⟩
  · rfl
  · subst b0; exact absurd ((rf_pl_nI (by omega)).mpr b1) a0
  · exact absurd ((rf_pl_nI (by omega)).mpr a1) b0
  · have e0 := rf_nIj (by omega) (by omega) b0
    subst e0
    rw [rf_ns_u a2 b2]
/-! the text stays a text -/
def rf_tx (T : Nat → Nat) (n : Nat) : Prop := (∀ i, T i ≤ 3) ∧ n ≤ 48
theorem rf_up3 {T : Nat → Nat} {k v : Nat} (h : ∀ i, T i ≤ 3) (hv : v ≤ 3) : ∀ i, upN T k v i ≤ 3 := by
  intro i
  unfold upN
  split
  · exact hv
  · exact h i
theorem rf_cp3 {T : Nat → Nat} {n f : Nat} (h : ∀ i, T i ≤ 3) : ∀ k i, rf_cp T n f k i ≤ 3
  | 0, i => h i
  | k + 1, i => rf_up3 (rf_cp3 h k) (rf_cp3 h k _) i
theorem rf_tPush {T T' : Nat → Nat} {n n' : Nat} {p0 r : Int32} (h : rf_tx T n) (ha : rf_aPush T n p0 r T' n') : rf_tx T' n' := by
  rcases ha with ⟨a0, rfl, rfl, rfl⟩ | ⟨a0, a1, rfl, rfl, rfl⟩ | ⟨v, rfl, a1, a2, rfl, rfl, rfl⟩
  · exact h
  · exact h
  · exact ⟨rf_up3 h.1 a1, by have := h.2; omega⟩
theorem rf_tPop {T T' : Nat → Nat} {n n' : Nat} {p0 r : Int32} (h : rf_tx T n) (ha : rf_aPop T n p0 r T' n') : rf_tx T' n' := by
  rcases ha with ⟨a0, rfl, rfl, rfl⟩ | ⟨v, rfl, a1, rfl, rfl, rfl⟩
  · exact h
  · exact ⟨h.1, by have := h.2; omega⟩
theorem rf_tRep {T T' : Nat → Nat} {n n' : Nat} {p0 p1 r : Int32} (h : rf_tx T n) (ha : rf_aRep T n p0 p1 r T' n') : rf_tx T' n' := by
  rcases ha with ⟨a0, rfl, rfl, rfl⟩ | ⟨a0, a1, rfl, rfl, rfl⟩ | ⟨a0, a1, a2, rfl, rfl, rfl⟩ | ⟨f, v, rfl, a1, rfl, a2, a3, rfl, rfl, rfl⟩
  · exact h
  · exact h
  · exact h
  · exact ⟨rf_cp3 h.1 v, a3⟩
theorem rf_tSet {T T' : Nat → Nat} {n n' : Nat} {p0 p1 r : Int32} (h : rf_tx T n) (ha : rf_aSet T n p0 p1 r T' n') : rf_tx T' n' := by
  rcases ha with ⟨a0, rfl, rfl, rfl⟩ | ⟨a0, a1, rfl, rfl, rfl⟩ | ⟨f, v, rfl, a1, rfl, a2, rfl, rfl, rfl⟩
  · exact h
  · exact h
  · exact ⟨rf_up3 h.1 a2, h.2⟩
theorem rf_tRev {T T' : Nat → Nat} {n n' : Nat} {r : Int32} (h : rf_tx T n) (ha : rf_aRev T n r T' n') : rf_tx T' n' := by
  obtain ⟨rfl, rfl, rfl⟩ := ha
  refine ⟨fun i => ?_, h.2⟩
  unfold rf_rev
  split <;> exact h.1 _
/-! steps of counts -/
theorem rf_cnt_t {P : Nat → Prop} {sm x : Nat} (hs : sm = rf_sum (fun r => rf_ind (P r)) x) (h : P x) : sm + 1 = rf_sum (fun r => rf_ind (P r)) (x + 1) := by rw [rf_sum, rf_ind_t h, hs]
theorem rf_cnt_f {P : Nat → Prop} {sm x : Nat} (hs : sm = rf_sum (fun r => rf_ind (P r)) x) (h : ¬ P x) : sm = rf_sum (fun r => rf_ind (P r)) (x + 1) := by rw [rf_sum, rf_ind_f h, hs]; rfl
theorem rf_max_t {f : Nat → Nat} {mx x : Nat} (hm : mx = rf_max f x) (h : mx < f x) : f x = rf_max f (x + 1) := by rw [rf_max, ← hm, if_pos h]
theorem rf_max_f {f : Nat → Nat} {mx x : Nat} (hm : mx = rf_max f x) (h : f x ≤ mx) : mx = rf_max f (x + 1) := by rw [rf_max, ← hm, if_neg (by omega)]
def rf_best (Q : Nat → Prop) (S : Nat → Nat) (x best : Nat) : Prop := (best = 0 ∧ ∀ r, r < x → ¬ Q r) ∨ ((∃ r, r < x ∧ Q r ∧ S r = best) ∧ ∀ r, r < x → Q r → best ≤ S r)
theorem rf_best_0 {Q : Nat → Prop} {S : Nat → Nat} : rf_best Q S 0 0 := Or.inl ⟨rfl, fun r h => absurd h (Nat.not_lt_zero _)⟩
theorem rf_best_n {Q : Nat → Prop} {S : Nat → Nat} {x best : Nat} (h : rf_best Q S x best) (hq : ¬ Q x) : rf_best Q S (x + 1) best := by
  rcases h with ⟨a, b⟩ | ⟨⟨r, a1, a2, a3⟩, b⟩
  · exact Or.inl ⟨a, lt_s b hq⟩
  · exact Or.inr ⟨⟨r, by omega, a2, a3⟩, lt_s b (fun w => absurd w hq)⟩
theorem rf_best_k {Q : Nat → Prop} {S : Nat → Nat} {x best : Nat} (h : rf_best Q S x best) (h0 : best ≠ 0) (hle : best ≤ S x) : rf_best Q S (x + 1) best := by
  rcases h with ⟨a, b⟩ | ⟨⟨r, a1, a2, a3⟩, b⟩
  · exact absurd a h0
  · exact Or.inr ⟨⟨r, by omega, a2, a3⟩, lt_s b (fun _ => hle)⟩
theorem rf_best_s {Q : Nat → Prop} {S : Nat → Nat} {x best : Nat} (h : rf_best Q S x best) (hq : Q x) (hn : best = 0 ∨ S x < best) (hp : ∀ r, r < x → 1 ≤ S r) : rf_best Q S (x + 1) (S x) := by
  rcases h with ⟨a, b⟩ | ⟨⟨r, a1, a2, a3⟩, b⟩
  · exact Or.inr ⟨⟨x, by omega, hq, rfl⟩, lt_s (fun r hr w => absurd w (b r hr)) (fun _ => Nat.le_refl _)⟩
  · have := hp r a1
    exact Or.inr ⟨⟨x, by omega, hq, rfl⟩, lt_s (fun r' hr w => by have := b r' hr w; omega) (fun _ => Nat.le_refl _)⟩
/-- the runs as long as the whole text at the most -/
theorem rf_run_b {T : Nat → Nat} {n i j p : Nat} (h : rf_run T n i j p) : 1 ≤ p ∧ i + 2 * p ≤ j + 1 ∧ j < n := ⟨h.1, h.2.1, h.2.2.1⟩
/-! reversing in place -/
def rf_rv (T : Nat → Nat) (n k : Nat) : Nat → Nat := fun x => if x < n ∧ (x < k ∨ n - 1 - x < k) then T (n - 1 - x) else T x
theorem rf_rv_0 (T : Nat → Nat) (n : Nat) : rf_rv T n 0 = T := by
  funext x
  unfold rf_rv
  rw [if_neg (by omega)]
theorem rf_rv_s {T : Nat → Nat} {n k : Nat} (h : 2 * k < n - 1) : upN (upN (rf_rv T n k) k (rf_rv T n k (n - 1 - k))) (n - 1 - k) (rf_rv T n k k) = rf_rv T n (k + 1) := by
  funext x
  have e1 : rf_rv T n k (n - 1 - k) = T (n - 1 - k) := by unfold rf_rv; rw [if_neg (by omega)]
  have e2 : rf_rv T n k k = T k := by unfold rf_rv; rw [if_neg (by omega)]
  rw [e1, e2]
  by_cases h1 : x = n - 1 - k
  · rw [h1, upN_s]
    unfold rf_rv
    rw [if_pos (by omega)]
    congr 1
    omega
  · rw [upN_n h1]
    by_cases h2 : x = k
    · rw [h2, upN_s]
      unfold rf_rv
      rw [if_pos (by omega)]
    · rw [upN_n h2]
      unfold rf_rv
      by_cases h3 : x < n ∧ (x < k ∨ n - 1 - x < k)
      · rw [if_pos h3, if_pos (by omega)]
      · rw [if_neg h3, if_neg (by omega)]
theorem rf_rv_end {T : Nat → Nat} {n k : Nat} (h : n - 1 ≤ 2 * k) : rf_rv T n k = rf_rev T n := by
  funext x
  unfold rf_rv rf_rev
  by_cases h1 : x < n ∧ (x < k ∨ n - 1 - x < k)
  · rw [if_pos h1, if_pos h1.1]
  · rw [if_neg h1]
    by_cases h2 : x < n
    · rw [if_pos h2]
      congr 1
      omega
    · rw [if_neg h2]
/-! reversing by way of a copy -/
def rf_c1 (C T : Nat → Nat) (k : Nat) : Nat → Nat := fun x => if x < k then T x else C x
theorem rf_c1_0 (C T : Nat → Nat) : rf_c1 C T 0 = C := by funext x; unfold rf_c1; rw [if_neg (by omega)]
theorem rf_c1_s {C T : Nat → Nat} {k : Nat} : upN (rf_c1 C T k) k (T k) = rf_c1 C T (k + 1) := by
  funext x
  unfold upN rf_c1
  by_cases h : x = k
  · rw [if_pos h, if_pos (by omega), h]
  · rw [if_neg h]
    by_cases h2 : x < k
    · rw [if_pos h2, if_pos (by omega)]
    · rw [if_neg h2, if_neg (by omega)]
def rf_c2 (T : Nat → Nat) (n k : Nat) : Nat → Nat := fun x => if x < k then T (n - 1 - x) else T x
theorem rf_c2_0 (T : Nat → Nat) (n : Nat) : rf_c2 T n 0 = T := by funext x; unfold rf_c2; rw [if_neg (by omega)]
theorem rf_c2_s {T C : Nat → Nat} {n k : Nat} (hk : k < n) (hn : n ≤ 48) : upN (rf_c2 T n k) k (rf_c1 C T 48 (n - 1 - k)) = rf_c2 T n (k + 1) := by
  funext x
  unfold upN rf_c2 rf_c1
  by_cases h : x = k
  · rw [if_pos h, if_pos (by omega), if_pos (by omega), h]
  · rw [if_neg h]
    by_cases h2 : x < k
    · rw [if_pos h2, if_pos (by omega)]
    · rw [if_neg h2, if_neg (by omega)]
theorem rf_c2_end (T : Nat → Nat) (n : Nat) : rf_c2 T n n = rf_rev T n := rfl
end
section
section NRJ
variable {p : Program} {l : Launch} {e : Env} {R : Room} {s : State} {m : MethodId} {args : Array Value} {below : List Frame} {meth : Method} {c : Code} {H : Heap} {locs : List Loc} {cells slots : Nat} {Q : State → Prop}
variable {cc : ByteArray} {pc : Nat} {ls : Array Slot} {rest : List Value}
theorem rj_icmp_ge (hx : p.tables.exec = Jvm.exec) (hb : c.code = cc) {a : Nat} {y : Int32} (ha : a < 2 ^ 31) {off : Int} {tgt : Nat} (hdg : decode cc pc = .ok (.if_icmp .ge off, 3)) (ht : (pc : Int) + off = (tgt : Int)) (kt : y.toInt ≤ (a : Int) → W p l e R s m args below meth c H locs cells slots Q (F0 m tgt ls rest)) (kf : (a : Int) < y.toInt → W p l e R s m args below meth c H locs cells slots Q (F0 m (pc + 3) ls rest)) : W p l e R s m args below meth c H locs cells slots Q (F0 m pc ls (.int y :: .int (nI a) :: rest)) := lv_icmp_ge hx hb hdg ht (fun h => kt (by rw [Int32.le_iff_toInt_le, nI_toInt ha] at h; exact h)) (fun h => kf (by rw [Int32.le_iff_toInt_le, nI_toInt ha] at h; omega))
end NRJ
/-- the class's own state is in order: its list of runs is either not current or all the runs -/
def X_ok (T : Nat → Nat) (n : Nat) (u : XS) : Prop := ∃ (Af Fi La St : Nat → Nat) (rc cu : Nat), u = (T, Af, Fi, La, St, n, rc, cu) ∧ (cu = 0 ∨ (cu = 1 ∧ rf_all T n rc Fi La St))
def M_ok (T : Nat → Nat) (n : Nat) (u : MS) : Prop := ∃ (Cp Fi La Le : Nat → Nat) (fo : Nat), u = (T, Cp, Fi, La, Le, n, fo)
theorem rf_sq_G {q P f g N : Nat} (hFL : f ≤ g) (h : g - f + 1 < 2 * P) (hN : g - f + 1 < 2 * N) : rf_sum (fun p => rf_ind (1 ≤ p ∧ q ∣ p) * (g - f + 1 + 1 - 2 * p)) P = rf_sum (fun p => rf_ind (1 ≤ p ∧ q ∣ p) * (g + 2 - (2 * p + f))) N := by
  rw [rf_sq_end h hN]
  exact rf_sum_c N (fun x _ => by rw [show g - f + 1 + 1 - 2 * x = g + 2 - (2 * x + f) by omega])
end
section
/-! what the reference needs: no program in sight -/
theorem rf_per_ext {T : Nat → Nat} {i e p : Nat} (h : rf_per T i e p) (hp : i + p ≤ e) (hE : T (e - p) = T e) : rf_per T i (e + 1) p := by
  intro k k1 k2
  rcases Nat.lt_or_ge (k + p) e with w | w
  · exact h k k1 w
  · rw [show k = e - p by omega, show e - p + p = e by omega]; exact hE
theorem rf_run_j {T : Nat → Nat} {n i j j' p : Nat} (h2 : i + 2 * p ≤ j + 1) (hjn : j < n) (hper : rf_per T i (j + 1) p) (hR : j + 1 < n → T (j + 1 - p) ≠ T (j + 1)) (h : rf_run T n i j' p) : j' = j := by
  obtain ⟨p1, a1, a2, a3, a4, a5, -⟩ := h
  rcases Nat.lt_trichotomy j j' with q | q | q
  · have := a3 (j + 1 - p) (by omega) (by omega)
    rw [show j + 1 - p + p = j + 1 by omega] at this
    exact absurd this (hR (by omega))
  · exact q.symm
  · have := hper (j' + 1 - p) (by omega) (by omega)
    rw [show j' + 1 - p + p = j' + 1 by omega] at this
    exact absurd this (a5 (by omega))
/-- one more run at the end of the list -/
theorem rf_app {T : Nat → Nat} {n c i j p : Nat} {Fi La St : Nat → Nat} (h : rf_lst T n c Fi La St) (hl : ∀ r, r < c → rf_lex (Fi r) (St r) i p) (hr : rf_run T n i j p) :
    rf_lst T n (c + 1) (upN Fi c i) (upN La c j) (upN St c p) ∧ (∀ i' j' p', rf_has c Fi La St i' j' p' → rf_has (c + 1) (upN Fi c i) (upN La c j) (upN St c p) i' j' p') ∧ rf_has (c + 1) (upN Fi c i) (upN La c j) (upN St c p) i j p ∧ ∀ r, r < c + 1 → rf_lex (upN Fi c i r) (upN St c p r) i (p + 1) := by
  have ne : ∀ r, r < c → r ≠ c := fun r hr => by omega
  refine ⟨⟨fun r hrc => ?_, fun r hrc => ?_⟩, fun i' j' p' hh => ?_, ⟨c, by omega, upN_s, upN_s, upN_s⟩, fun r hrc => ?_⟩
  · rcases Nat.lt_or_ge r c with q | q
    · rw [upN_n (ne r q), upN_n (ne r q), upN_n (ne r q)]; exact h.1 r q
    · rw [show r = c by omega, upN_s, upN_s, upN_s]; exact hr
  · rw [upN_n (ne r (by omega)), upN_n (ne r (by omega))]
    rcases Nat.lt_or_ge (r + 1) c with q | q
    · rw [upN_n (ne _ q), upN_n (ne _ q)]; exact h.2 r q
    · rw [show r + 1 = c by omega, upN_s, upN_s]; exact hl r (by omega)
  · obtain ⟨r, r1, r2, r3, r4⟩ := hh
    exact ⟨r, by omega, by rw [upN_n (ne r r1)]; exact r2, by rw [upN_n (ne r r1)]; exact r3, by rw [upN_n (ne r r1)]; exact r4⟩
  · rcases Nat.lt_or_ge r c with q | q
    · rw [upN_n (ne r q), upN_n (ne r q)]
      have := hl r q
      unfold rf_lex at *
      omega
    · rw [show r = c by omega, upN_s, upN_s]
      unfold rf_lex
      omega
theorem rf_sum_1 {f : Nat → Nat} (h : f 0 = 0) : 0 = rf_sum f 1 := by
  have e : rf_sum f 1 = 0 + f 0 := rfl
  rw [e, h]
theorem rf_cnb_t {P : Nat → Prop} {sm b x : Nat} (hs : sm = b + rf_sum (fun r => rf_ind (P r)) x) (h : P x) : sm + 1 = b + rf_sum (fun r => rf_ind (P r)) (x + 1) := by rw [rf_sum, rf_ind_t h, hs]; omega
theorem rf_cnb_f {P : Nat → Prop} {sm b x : Nat} (hs : sm = b + rf_sum (fun r => rf_ind (P r)) x) (h : ¬ P x) : sm = b + rf_sum (fun r => rf_ind (P r)) (x + 1) := by rw [rf_sum, rf_ind_f h, hs]; omega
theorem rf_lt_1 {x y : Nat} : rf_lt 1 x y ↔ x < y := by unfold rf_lt; rw [if_neg (by omega)]
end
section
set_option maxHeartbeats 4000000 in
set_option maxRecDepth 20000 in
/-- whether p0 is a place (a run) -/
theorem c_X_isPlace (l : Launch) (dC : Nat → ClassId) (dI : Nat → Nat → Nat) (cA : ClassId) (a : Nat → Nat) (T Af Fi La St : Nat → Nat) (n rc cu : Nat) (p0 : Int32) (hn : n ≤ 200) : X_Mi l dC dI cA a y_X_isPlace b_X_isPlace 2 (some .boolean) (rmL 0) [.int (p0)] (T, Af, Fi, La, St, n, rc, cu) (fun r u => ∃ b : Nat, r = nI b ∧ b ≤ 1 ∧ (b ≠ 0 ↔ 0 ≤ p0.toInt ∧ p0.toInt < (n : Int)) ∧ u = (T, Af, Fi, La, St, n, rc, cu)) := by
  refine X_metz (by decide) rfl (Nat.le_of_ble_eq_true rfl) ?_
  intro zp ze zs zm za zb zt zc A Q S I hret ls hl
  have hl : lv_has ls 2 [(0, .ref (a 0)), (1, .int (p0))] := hl
  have hx := S.1
  have hb := S.2.1
  refine lv_iload_n (pc := 0) hx hb d_X_isPlace_0 rfl (lv_at hl 1 rfl) ?_
  refine ri_if_lt (pc := 1) (tgt := 16) hx hb d_X_isPlace_1 (by decide) (fun c_1 => ?_) (fun c_1 => ?_)
  · refine nr_iconst (pc := 16) hx hb 0 rfl d_X_isPlace_16 ?_
    exact hret (0) _ _ _ _ _ I d_X_isPlace_17 (by omega) ⟨_, rfl, by omega, by omega, rfl⟩
  · refine lv_iload_n (pc := 4) hx hb d_X_isPlace_4 rfl (lv_at hl 1 rfl) ?_
    refine lv_aload_n (pc := 5) hx hb d_X_isPlace_5 rfl (lv_at hl 0 rfl) ?_
    refine X_get_length (pc := 6) S I d_X_isPlace_6 ?_
    refine ri_icmp_ge (pc := 9) (tgt := 16) hx hb (by omega) d_X_isPlace_9 (by decide) (fun c_9 => ?_) (fun c_9 => ?_)
    · refine nr_iconst (pc := 16) hx hb 0 rfl d_X_isPlace_16 ?_
      exact hret (0) _ _ _ _ _ I d_X_isPlace_17 (by omega) ⟨_, rfl, by omega, by omega, rfl⟩
    · refine nr_iconst (pc := 12) hx hb 1 rfl d_X_isPlace_12 ?_
      refine lv_goto (pc := 13) (tgt := 17) hx hb d_X_isPlace_13 (by decide) ?_
      exact hret (1) _ _ _ _ _ I d_X_isPlace_17 (by omega) ⟨_, rfl, by omega, by omega, rfl⟩
set_option maxHeartbeats 4000000 in
set_option maxRecDepth 20000 in
/-- whether p0 is a place (a run) -/
theorem c_X_isRun (l : Launch) (dC : Nat → ClassId) (dI : Nat → Nat → Nat) (cA : ClassId) (a : Nat → Nat) (T Af Fi La St : Nat → Nat) (n rc cu : Nat) (p0 : Int32) (hrc : rc ≤ 200) : X_Mi l dC dI cA a y_X_isRun b_X_isRun 2 (some .boolean) (rmL 0) [.int (p0)] (T, Af, Fi, La, St, n, rc, cu) (fun r u => ∃ b : Nat, r = nI b ∧ b ≤ 1 ∧ (b ≠ 0 ↔ 0 ≤ p0.toInt ∧ p0.toInt < (rc : Int)) ∧ u = (T, Af, Fi, La, St, n, rc, cu)) := by
  refine X_metz (by decide) rfl (Nat.le_of_ble_eq_true rfl) ?_
  intro zp ze zs zm za zb zt zc A Q S I hret ls hl
  have hl : lv_has ls 2 [(0, .ref (a 0)), (1, .int (p0))] := hl
  have hx := S.1
  have hb := S.2.1
  refine lv_iload_n (pc := 0) hx hb d_X_isRun_0 rfl (lv_at hl 1 rfl) ?_
  refine ri_if_lt (pc := 1) (tgt := 16) hx hb d_X_isRun_1 (by decide) (fun c_1 => ?_) (fun c_1 => ?_)
  · refine nr_iconst (pc := 16) hx hb 0 rfl d_X_isRun_16 ?_
    exact hret (0) _ _ _ _ _ I d_X_isRun_17 (by omega) ⟨_, rfl, by omega, by omega, rfl⟩
  · refine lv_iload_n (pc := 4) hx hb d_X_isRun_4 rfl (lv_at hl 1 rfl) ?_
    refine lv_aload_n (pc := 5) hx hb d_X_isRun_5 rfl (lv_at hl 0 rfl) ?_
    refine X_get_runCount (pc := 6) S I d_X_isRun_6 ?_
    refine ri_icmp_ge (pc := 9) (tgt := 16) hx hb (by omega) d_X_isRun_9 (by decide) (fun c_9 => ?_) (fun c_9 => ?_)
    · refine nr_iconst (pc := 16) hx hb 0 rfl d_X_isRun_16 ?_
      exact hret (0) _ _ _ _ _ I d_X_isRun_17 (by omega) ⟨_, rfl, by omega, by omega, rfl⟩
    · refine nr_iconst (pc := 12) hx hb 1 rfl d_X_isRun_12 ?_
      refine lv_goto (pc := 13) (tgt := 17) hx hb d_X_isRun_13 (by decide) ?_
      exact hret (1) _ _ _ _ _ I d_X_isRun_17 (by omega) ⟨_, rfl, by omega, by omega, rfl⟩
set_option maxHeartbeats 4000000 in
set_option maxRecDepth 20000 in
/-- how many symbols from i and from j on are the same -/
theorem c_X_forward (l : Launch) (dC : Nat → ClassId) (dI : Nat → Nat → Nat) (cA : ClassId) (a : Nat → Nat) (T Af Fi La St : Nat → Nat) (n rc cu : Nat) (i j : Nat) (hn : n ≤ 48) (hT : ∀ i, T i ≤ 3) (hi : i ≤ 48) (hj : j ≤ 48) : X_Mi l dC dI cA a y_X_forward b_X_forward 4 (some .int) (rmL 0) [.int (nI (i)), .int (nI (j))] (T, Af, Fi, La, St, n, rc, cu) (fun r u => ∃ k : Nat, r = nI k ∧ rf_F T n i j k ∧ u = (T, Af, Fi, La, St, n, rc, cu)) := by
  refine X_meti (by decide) rfl (Nat.le_of_ble_eq_true rfl) ?_
  intro zp ze zs zm za zb zt zc A Q S I hret ls hl
  have hl : lv_has ls 4 [(0, .ref (a 0)), (1, .int (nI (i))), (2, .int (nI (j)))] := hl
  have hx := S.1
  have hb := S.2.1
  refine nr_iconst (pc := 0) hx hb 0 rfl d_X_forward_0 ?_
  refine lv_istore_n (pc := 1) (lv' := [(3, .int (nI (0))), (0, .ref (a 0)), (1, .int (nI (i))), (2, .int (nI (j)))]) hx hb d_X_forward_1 rfl hl (by decide) rfl (fun ls hl => ?_)
  have lp_2 : ∀ (fu : Nat) (k : Nat), (∀ t, t < k → i + t < n ∧ j + t < n ∧ T (i + t) = T (j + t)) → (k ≤ 48) → 48 - k < fu → ∀ (H : Heap) (locs : List Loc), X_I dC dI cA a A zs zs.heap H locs (T, Af, Fi, La, St, n, rc, cu) → ∀ ls : Array Slot, lv_has ls 4 [(3, .int (nI (k))), (0, .ref (a 0)), (1, .int (nI (i))), (2, .int (nI (j)))] → W zp l ze (rmL 0) zs zm za zb zt zc H locs 0 0 Q (F0 zm 2 ls []) := by
    intro fu
    induction fu with
    | zero =>
      intro k hk hkn hfu
      exact absurd hfu (Nat.not_lt_zero _)
    | succ fu ih_2 =>
      intro k hk hkn hfu H locs I ls hl
      refine lv_iload_n (pc := 2) hx hb d_X_forward_2 rfl (lv_at hl 2 rfl) ?_
      refine lv_iload_n (pc := 3) hx hb d_X_forward_3 rfl (lv_at hl 0 rfl) ?_
      refine nr_iadd (pc := 4) hx hb d_X_forward_4 ?_
      refine lv_aload_n (pc := 5) hx hb d_X_forward_5 rfl (lv_at hl 1 rfl) ?_
      refine X_get_length (pc := 6) S I d_X_forward_6 ?_
      refine nr_icmp_ge (pc := 9) (tgt := 47) hx hb (by omega) (by omega) d_X_forward_9 (by decide) (fun c_9 => ?_) (fun c_9 => ?_)
      · refine lv_iload_n (pc := 47) hx hb d_X_forward_47 rfl (lv_at hl 0 rfl) ?_
        exact hret _ _ _ _ _ _ I d_X_forward_48 ⟨_, rfl, ⟨hk, by omega⟩, rfl⟩
      · refine lv_iload_n (pc := 12) hx hb d_X_forward_12 rfl (lv_at hl 3 rfl) ?_
        refine lv_iload_n (pc := 13) hx hb d_X_forward_13 rfl (lv_at hl 0 rfl) ?_
        refine nr_iadd (pc := 14) hx hb d_X_forward_14 ?_
        refine lv_aload_n (pc := 15) hx hb d_X_forward_15 rfl (lv_at hl 1 rfl) ?_
        refine X_get_length (pc := 16) S I d_X_forward_16 ?_
        refine nr_icmp_ge (pc := 19) (tgt := 47) hx hb (by omega) (by omega) d_X_forward_19 (by decide) (fun c_19 => ?_) (fun c_19 => ?_)
        · refine lv_iload_n (pc := 47) hx hb d_X_forward_47 rfl (lv_at hl 0 rfl) ?_
          exact hret _ _ _ _ _ _ I d_X_forward_48 ⟨_, rfl, ⟨hk, by omega⟩, rfl⟩
        · refine lv_aload_n (pc := 22) hx hb d_X_forward_22 rfl (lv_at hl 1 rfl) ?_
          refine X_get_text (pc := 23) S I d_X_forward_23 ?_
          refine lv_iload_n (pc := 26) hx hb d_X_forward_26 rfl (lv_at hl 2 rfl) ?_
          refine lv_iload_n (pc := 27) hx hb d_X_forward_27 rfl (lv_at hl 0 rfl) ?_
          refine nr_iadd (pc := 28) hx hb d_X_forward_28 ?_
          refine X_ald1 (pc := 29) S I (by omega) d_X_forward_29 ?_
          refine lv_aload_n (pc := 30) hx hb d_X_forward_30 rfl (lv_at hl 1 rfl) ?_
          refine X_get_text (pc := 31) S I d_X_forward_31 ?_
          refine lv_iload_n (pc := 34) hx hb d_X_forward_34 rfl (lv_at hl 3 rfl) ?_
          refine lv_iload_n (pc := 35) hx hb d_X_forward_35 rfl (lv_at hl 0 rfl) ?_
          refine nr_iadd (pc := 36) hx hb d_X_forward_36 ?_
          refine X_ald1 (pc := 37) S I (by omega) d_X_forward_37 ?_
          refine nr_icmp_ne (pc := 38) (tgt := 47) hx hb (sm3 (hT _)) (sm3 (hT _)) d_X_forward_38 (by decide) (fun c_38 => ?_) (fun c_38 => ?_)
          · refine lv_iload_n (pc := 47) hx hb d_X_forward_47 rfl (lv_at hl 0 rfl) ?_
            exact hret _ _ _ _ _ _ I d_X_forward_48 ⟨_, rfl, ⟨hk, by omega⟩, rfl⟩
          · refine nr_iinc (pc := 41) (lv' := [(3, .int (nI (k + 1))), (0, .ref (a 0)), (1, .int (nI (i))), (2, .int (nI (j)))]) hx hb d_X_forward_41 hl (d := 1) rfl (k := 0) rfl (by decide) rfl (fun ls hl => ?_)
            refine lv_goto (pc := 44) (tgt := 2) hx hb d_X_forward_44 (by decide) ?_
            exact ih_2 (k + 1) (lt_s hk ⟨c_9, c_19, c_38⟩) (by omega) (by omega) _ _ I ls (lv_sub hl [0, 1, 2, 3] rfl)
  exact lp_2 _ 0 (fun t ht => absurd ht (Nat.not_lt_zero _)) (by omega) (Nat.lt_succ_self _) _ _ I ls (lv_sub hl [0, 1, 2, 3] rfl)
set_option maxHeartbeats 4000000 in
set_option maxRecDepth 20000 in
/-- how many symbols before i and before j are the same -/
theorem c_X_backward (l : Launch) (dC : Nat → ClassId) (dI : Nat → Nat → Nat) (cA : ClassId) (a : Nat → Nat) (T Af Fi La St : Nat → Nat) (n rc cu : Nat) (i j : Nat) (hn : n ≤ 48) (hT : ∀ i, T i ≤ 3) (hi : i ≤ 48) (hj : j ≤ 48) : X_Mi l dC dI cA a y_X_backward b_X_backward 4 (some .int) (rmL 0) [.int (nI (i)), .int (nI (j))] (T, Af, Fi, La, St, n, rc, cu) (fun r u => ∃ k : Nat, r = nI k ∧ rf_B T i j k ∧ u = (T, Af, Fi, La, St, n, rc, cu)) := by
  refine X_meti (by decide) rfl (Nat.le_of_ble_eq_true rfl) ?_
  intro zp ze zs zm za zb zt zc A Q S I hret ls hl
  have hl : lv_has ls 4 [(0, .ref (a 0)), (1, .int (nI (i))), (2, .int (nI (j)))] := hl
  have hx := S.1
  have hb := S.2.1
  refine nr_iconst (pc := 0) hx hb 0 rfl d_X_backward_0 ?_
  refine lv_istore_n (pc := 1) (lv' := [(3, .int (nI (0))), (0, .ref (a 0)), (1, .int (nI (i))), (2, .int (nI (j)))]) hx hb d_X_backward_1 rfl hl (by decide) rfl (fun ls hl => ?_)
  have lp_2 : ∀ (fu : Nat) (k : Nat), (∀ t, t < k → t < i ∧ t < j ∧ T (i - 1 - t) = T (j - 1 - t)) → (k ≤ 48) → 48 - k < fu → ∀ (H : Heap) (locs : List Loc), X_I dC dI cA a A zs zs.heap H locs (T, Af, Fi, La, St, n, rc, cu) → ∀ ls : Array Slot, lv_has ls 4 [(3, .int (nI (k))), (0, .ref (a 0)), (1, .int (nI (i))), (2, .int (nI (j)))] → W zp l ze (rmL 0) zs zm za zb zt zc H locs 0 0 Q (F0 zm 2 ls []) := by
    intro fu
    induction fu with
    | zero =>
      intro k hk hkn hfu
      exact absurd hfu (Nat.not_lt_zero _)
    | succ fu ih_2 =>
      intro k hk hkn hfu H locs I ls hl
      refine lv_iload_n (pc := 2) hx hb d_X_backward_2 rfl (lv_at hl 0 rfl) ?_
      refine lv_iload_n (pc := 3) hx hb d_X_backward_3 rfl (lv_at hl 2 rfl) ?_
      refine nr_icmp_ge (pc := 4) (tgt := 41) hx hb (by omega) (by omega) d_X_backward_4 (by decide) (fun c_4 => ?_) (fun c_4 => ?_)
      · refine lv_iload_n (pc := 41) hx hb d_X_backward_41 rfl (lv_at hl 0 rfl) ?_
        exact hret _ _ _ _ _ _ I d_X_backward_42 ⟨_, rfl, ⟨hk, by omega⟩, rfl⟩
      · refine lv_iload_n (pc := 7) hx hb d_X_backward_7 rfl (lv_at hl 0 rfl) ?_
        refine lv_iload_n (pc := 8) hx hb d_X_backward_8 rfl (lv_at hl 3 rfl) ?_
        refine nr_icmp_ge (pc := 9) (tgt := 41) hx hb (by omega) (by omega) d_X_backward_9 (by decide) (fun c_9 => ?_) (fun c_9 => ?_)
        · refine lv_iload_n (pc := 41) hx hb d_X_backward_41 rfl (lv_at hl 0 rfl) ?_
          exact hret _ _ _ _ _ _ I d_X_backward_42 ⟨_, rfl, ⟨hk, by omega⟩, rfl⟩
        · refine lv_aload_n (pc := 12) hx hb d_X_backward_12 rfl (lv_at hl 1 rfl) ?_
          refine X_get_text (pc := 13) S I d_X_backward_13 ?_
          refine lv_iload_n (pc := 16) hx hb d_X_backward_16 rfl (lv_at hl 2 rfl) ?_
          refine nr_iconst (pc := 17) hx hb 1 rfl d_X_backward_17 ?_
          refine nr_isub (pc := 18) hx hb (by omega) d_X_backward_18 ?_
          refine lv_iload_n (pc := 19) hx hb d_X_backward_19 rfl (lv_at hl 0 rfl) ?_
          refine nr_isub (pc := 20) hx hb (by omega) d_X_backward_20 ?_
          refine X_ald1 (pc := 21) S I (by omega) d_X_backward_21 ?_
          refine lv_aload_n (pc := 22) hx hb d_X_backward_22 rfl (lv_at hl 1 rfl) ?_
          refine X_get_text (pc := 23) S I d_X_backward_23 ?_
          refine lv_iload_n (pc := 26) hx hb d_X_backward_26 rfl (lv_at hl 3 rfl) ?_
          refine nr_iconst (pc := 27) hx hb 1 rfl d_X_backward_27 ?_
          refine nr_isub (pc := 28) hx hb (by omega) d_X_backward_28 ?_
          refine lv_iload_n (pc := 29) hx hb d_X_backward_29 rfl (lv_at hl 0 rfl) ?_
          refine nr_isub (pc := 30) hx hb (by omega) d_X_backward_30 ?_
          refine X_ald1 (pc := 31) S I (by omega) d_X_backward_31 ?_
          refine nr_icmp_ne (pc := 32) (tgt := 41) hx hb (sm3 (hT _)) (sm3 (hT _)) d_X_backward_32 (by decide) (fun c_32 => ?_) (fun c_32 => ?_)
          · refine lv_iload_n (pc := 41) hx hb d_X_backward_41 rfl (lv_at hl 0 rfl) ?_
            exact hret _ _ _ _ _ _ I d_X_backward_42 ⟨_, rfl, ⟨hk, by omega⟩, rfl⟩
          · refine nr_iinc (pc := 35) (lv' := [(3, .int (nI (k + 1))), (0, .ref (a 0)), (1, .int (nI (i))), (2, .int (nI (j)))]) hx hb d_X_backward_35 hl (d := 1) rfl (k := 0) rfl (by decide) rfl (fun ls hl => ?_)
            refine lv_goto (pc := 38) (tgt := 2) hx hb d_X_backward_38 (by decide) ?_
            exact ih_2 (k + 1) (lt_s hk ⟨c_4, c_9, c_32⟩) (by omega) (by omega) _ _ I ls (lv_sub hl [0, 1, 2, 3] rfl)
  exact lp_2 _ 0 (fun t ht => absurd ht (Nat.not_lt_zero _)) (by omega) (Nat.lt_succ_self _) _ _ I ls (lv_sub hl [0, 1, 2, 3] rfl)
set_option maxHeartbeats 4000000 in
set_option maxRecDepth 20000 in
/-- whether the ending k is smaller than the ending i -/
theorem c_X_comesBefore (l : Launch) (dC : Nat → ClassId) (dI : Nat → Nat → Nat) (cA : ClassId) (a : Nat → Nat) (T Af Fi La St : Nat → Nat) (n rc cu : Nat) (k i b : Nat) (hn : n ≤ 48) (hT : ∀ i, T i ≤ 3) (hik : i < k) (hk : k ≤ 48) (hbb : b ≤ 1) : X_Mi l dC dI cA a y_X_comesBefore b_X_comesBefore 5 (some .boolean) (rmL 1) [.int (nI (k)), .int (nI (i)), .int (nI (b))] (T, Af, Fi, La, St, n, rc, cu) (fun r u => ∃ z : Nat, r = nI z ∧ z ≤ 1 ∧ (z ≠ 0 ↔ ¬ rf_gt T n b k i) ∧ u = (T, Af, Fi, La, St, n, rc, cu)) := by
  refine X_metz (by decide) rfl (Nat.le_of_ble_eq_true rfl) ?_
  intro zp ze zs zm za zb zt zc A Q S I hret ls hl
  have hl : lv_has ls 5 [(0, .ref (a 0)), (1, .int (nI (k))), (2, .int (nI (i))), (3, .int (nI (b)))] := hl
  have hx := S.1
  have hb := S.2.1
  refine lv_aload_n (pc := 0) hx hb d_X_comesBefore_0 rfl (lv_at hl 0 rfl) ?_
  refine lv_iload_n (pc := 1) hx hb d_X_comesBefore_1 rfl (lv_at hl 2 rfl) ?_
  refine lv_iload_n (pc := 2) hx hb d_X_comesBefore_2 rfl (lv_at hl 1 rfl) ?_
  refine X_calli (pc := 3) (rest := []) [.int (nI (i)), .int (nI (k))] S (c_X_forward l dC dI cA a T Af Fi La St n rc cu i k hn hT (by omega) hk) k_X_X_forward e_X_forward rfl rfl ⟨Nat.le_of_ble_eq_true rfl, Nat.le_of_ble_eq_true rfl⟩ I rfl hl.1 rfl (Nat.le_of_ble_eq_true rfl) d_X_comesBefore_3 (fun r u H locs hw I => ?_)
  obtain ⟨q, rfl, hq, rfl⟩ := hw
  have hg := rf_gt_iff (b := b) hik hq
  have hqn : k + q < n → i + q < n := fun h => by omega
  have hql : q ≤ 48 := by
    rcases Nat.eq_zero_or_pos q with w | w
    · omega
    · have := hq.1 (q - 1) (by omega); omega
  refine lv_istore (pc := 6) (lv' := [(4, .int (nI (q))), (0, .ref (a 0)), (1, .int (nI (k))), (2, .int (nI (i))), (3, .int (nI (b)))]) hx hb d_X_comesBefore_6 hl (by decide) rfl (fun ls hl => ?_)
  refine lv_iload_n (pc := 8) hx hb d_X_comesBefore_8 rfl (lv_at hl 2 rfl) ?_
  refine lv_iload (pc := 9) hx hb d_X_comesBefore_9 (lv_at hl 0 rfl) ?_
  refine nr_iadd (pc := 11) hx hb d_X_comesBefore_11 ?_
  refine lv_aload_n (pc := 12) hx hb d_X_comesBefore_12 rfl (lv_at hl 1 rfl) ?_
  refine X_get_length (pc := 13) S I d_X_comesBefore_13 ?_
  refine nr_icmp_lt (pc := 16) (tgt := 21) hx hb (by omega) (by omega) d_X_comesBefore_16 (by decide) (fun c_16 => ?_) (fun c_16 => ?_)
  · refine lv_iload_n (pc := 21) hx hb d_X_comesBefore_21 rfl (lv_at hl 4 rfl) ?_
    refine nr_if_eq (pc := 22) (tgt := 54) hx hb (by omega) d_X_comesBefore_22 (by decide) (fun c_22 => ?_) (fun c_22 => ?_)
    · refine lv_aload_n (pc := 54) hx hb d_X_comesBefore_54 rfl (lv_at hl 1 rfl) ?_
      refine X_get_text (pc := 55) S I d_X_comesBefore_55 ?_
      refine lv_iload_n (pc := 58) hx hb d_X_comesBefore_58 rfl (lv_at hl 2 rfl) ?_
      refine lv_iload (pc := 59) hx hb d_X_comesBefore_59 (lv_at hl 0 rfl) ?_
      refine nr_iadd (pc := 61) hx hb d_X_comesBefore_61 ?_
      refine X_ald1 (pc := 62) S I (by omega) d_X_comesBefore_62 ?_
      refine lv_aload_n (pc := 63) hx hb d_X_comesBefore_63 rfl (lv_at hl 1 rfl) ?_
      refine X_get_text (pc := 64) S I d_X_comesBefore_64 ?_
      refine lv_iload_n (pc := 67) hx hb d_X_comesBefore_67 rfl (lv_at hl 3 rfl) ?_
      refine lv_iload (pc := 68) hx hb d_X_comesBefore_68 (lv_at hl 0 rfl) ?_
      refine nr_iadd (pc := 70) hx hb d_X_comesBefore_70 ?_
      refine X_ald1 (pc := 71) S I (by omega) d_X_comesBefore_71 ?_
      refine nr_icmp_le (pc := 72) (tgt := 79) hx hb (sm3 (hT _)) (sm3 (hT _)) d_X_comesBefore_72 (by decide) (fun c_72 => ?_) (fun c_72 => ?_)
      · refine nr_iconst (pc := 79) hx hb 0 rfl d_X_comesBefore_79 ?_
        exact hret (0) _ _ _ _ _ I d_X_comesBefore_80 (by omega) ⟨_, rfl, by omega, by rw [hg]; have hne : T (i + q) ≠ T (k + q) := fun w => hq.2 ⟨hqn c_16, c_16, w⟩; simp only [rf_lt]; split <;> omega, rfl⟩
      · refine nr_iconst (pc := 75) hx hb 1 rfl d_X_comesBefore_75 ?_
        refine lv_goto (pc := 76) (tgt := 80) hx hb d_X_comesBefore_76 (by decide) ?_
        exact hret (1) _ _ _ _ _ I d_X_comesBefore_80 (by omega) ⟨_, rfl, by omega, by rw [hg]; have hne : T (i + q) ≠ T (k + q) := fun w => hq.2 ⟨hqn c_16, c_16, w⟩; simp only [rf_lt]; split <;> omega, rfl⟩
    · refine lv_aload_n (pc := 25) hx hb d_X_comesBefore_25 rfl (lv_at hl 1 rfl) ?_
      refine X_get_text (pc := 26) S I d_X_comesBefore_26 ?_
      refine lv_iload_n (pc := 29) hx hb d_X_comesBefore_29 rfl (lv_at hl 2 rfl) ?_
      refine lv_iload (pc := 30) hx hb d_X_comesBefore_30 (lv_at hl 0 rfl) ?_
      refine nr_iadd (pc := 32) hx hb d_X_comesBefore_32 ?_
      refine X_ald1 (pc := 33) S I (by omega) d_X_comesBefore_33 ?_
      refine lv_aload_n (pc := 34) hx hb d_X_comesBefore_34 rfl (lv_at hl 1 rfl) ?_
      refine X_get_text (pc := 35) S I d_X_comesBefore_35 ?_
      refine lv_iload_n (pc := 38) hx hb d_X_comesBefore_38 rfl (lv_at hl 3 rfl) ?_
      refine lv_iload (pc := 39) hx hb d_X_comesBefore_39 (lv_at hl 0 rfl) ?_
      refine nr_iadd (pc := 41) hx hb d_X_comesBefore_41 ?_
      refine X_ald1 (pc := 42) S I (by omega) d_X_comesBefore_42 ?_
      refine nr_icmp_ge (pc := 43) (tgt := 50) hx hb (sm3 (hT _)) (sm3 (hT _)) d_X_comesBefore_43 (by decide) (fun c_43 => ?_) (fun c_43 => ?_)
      · refine nr_iconst (pc := 50) hx hb 0 rfl d_X_comesBefore_50 ?_
        refine lv_goto (pc := 51) (tgt := 80) hx hb d_X_comesBefore_51 (by decide) ?_
        exact hret (0) _ _ _ _ _ I d_X_comesBefore_80 (by omega) ⟨_, rfl, by omega, by rw [hg]; have hne : T (i + q) ≠ T (k + q) := fun w => hq.2 ⟨hqn c_16, c_16, w⟩; simp only [rf_lt]; split <;> omega, rfl⟩
      · refine nr_iconst (pc := 46) hx hb 1 rfl d_X_comesBefore_46 ?_
        refine lv_goto (pc := 47) (tgt := 80) hx hb d_X_comesBefore_47 (by decide) ?_
        exact hret (1) _ _ _ _ _ I d_X_comesBefore_80 (by omega) ⟨_, rfl, by omega, by rw [hg]; have hne : T (i + q) ≠ T (k + q) := fun w => hq.2 ⟨hqn c_16, c_16, w⟩; simp only [rf_lt]; split <;> omega, rfl⟩
  · refine nr_iconst (pc := 19) hx hb 1 rfl d_X_comesBefore_19 ?_
    exact hret (1) _ _ _ _ _ I d_X_comesBefore_20 (by omega) ⟨_, rfl, by omega, by rw [hg]; omega, rfl⟩
end
section
set_option maxHeartbeats 4000000 in
set_option maxRecDepth 20000 in
/-- the next smaller ending of every place -/
theorem c_X_findEndings (l : Launch) (dC : Nat → ClassId) (dI : Nat → Nat → Nat) (cA : ClassId) (a : Nat → Nat) (T Af Fi La St : Nat → Nat) (n rc cu : Nat) (b : Nat) (hn : n ≤ 48) (hT : ∀ i, T i ≤ 3) (hbb : b ≤ 1) : X_Mv l dC dI cA a y_X_findEndings b_X_findEndings 6 (rmL 2) [.int (nI (b))] (T, Af, Fi, La, St, n, rc, cu) (fun u => ∃ Af' : Nat → Nat, (∀ x, x < n → rf_ns T n b x (Af' x)) ∧ u = (T, Af', Fi, La, St, n, rc, cu)) := by
  refine X_metv (by decide) rfl (Nat.le_of_ble_eq_true rfl) ?_
  intro zp ze zs zm za zb zt zc A Q S I hret ls hl
  have hl : lv_has ls 6 [(0, .ref (a 0)), (1, .int (nI (b)))] := hl
  have hx := S.1
  have hb := S.2.1
  refine lv_aload_n (pc := 0) hx hb d_X_findEndings_0 rfl (lv_at hl 0 rfl) ?_
  refine X_get_after (pc := 1) S I d_X_findEndings_1 ?_
  refine lv_aload_n (pc := 4) hx hb d_X_findEndings_4 rfl (lv_at hl 0 rfl) ?_
  refine X_get_length (pc := 5) S I d_X_findEndings_5 ?_
  refine lv_aload_n (pc := 8) hx hb d_X_findEndings_8 rfl (lv_at hl 0 rfl) ?_
  refine X_get_length (pc := 9) S I d_X_findEndings_9 ?_
  refine X_ast2 (pc := 12) S I (by omega) d_X_findEndings_12 (fun H locs I => ?_)
  refine lv_aload_n (pc := 13) hx hb d_X_findEndings_13 rfl (lv_at hl 0 rfl) ?_
  refine X_get_length (pc := 14) S I d_X_findEndings_14 ?_
  refine nr_iconst (pc := 17) hx hb 1 rfl d_X_findEndings_17 ?_
  refine lv_isub (pc := 18) hx hb d_X_findEndings_18 ?_
  refine lv_istore_n (pc := 19) (lv' := [(2, .int (nI n - nI 1)), (0, .ref (a 0)), (1, .int (nI (b)))]) hx hb d_X_findEndings_19 rfl hl (by decide) rfl (fun ls hl => ?_)
  have lp_20 : ∀ (fu : Nat) (k : Nat) (Af' : Nat → Nat), (k ≤ n) → (∀ x, k ≤ x → x < n → rf_ns T n b x (Af' x)) → k < fu → ∀ (H : Heap) (locs : List Loc), X_I dC dI cA a A zs zs.heap H locs (T, Af', Fi, La, St, n, rc, cu) → ∀ ls : Array Slot, lv_has ls 6 [(2, .int (nI k - nI 1)), (0, .ref (a 0)), (1, .int (nI (b)))] → W zp l ze (rmL 2) zs zm za zb zt zc H locs 0 0 Q (F0 zm 20 ls []) := by
    intro fu
    induction fu with
    | zero =>
      intro k Af' hkn hA hfu
      exact absurd hfu (Nat.not_lt_zero _)
    | succ fu ih_20 =>
      intro k Af' hkn hA hfu H locs I ls hl
      refine lv_iload_n (pc := 20) hx hb d_X_findEndings_20 rfl (lv_at hl 0 rfl) ?_
      refine ri_if_lt (pc := 21) (tgt := 89) hx hb d_X_findEndings_21 (by decide) (fun c_21 => ?_) (fun c_21 => ?_)
      · exact hret _ _ _ _ _ I d_X_findEndings_89 ⟨Af', fun x h => hA x (by have := pk_sub_toInt (a := k) (b := 1) (by omega) (by omega); omega) h, rfl⟩
      · have hk0 : 0 < k := by
          have := pk_sub_toInt (a := k) (b := 1) (by omega) (by omega)
          omega
        obtain ⟨i, rfl⟩ : ∃ i, k = i + 1 := ⟨k - 1, by omega⟩
        rw [show nI (i + 1) - nI 1 = nI i from by rw [pk_sub (by omega)]; rfl] at hl
        refine lv_iload_n (pc := 24) hx hb d_X_findEndings_24 rfl (lv_at hl 0 rfl) ?_
        refine nr_iconst (pc := 25) hx hb 1 rfl d_X_findEndings_25 ?_
        refine nr_iadd (pc := 26) hx hb d_X_findEndings_26 ?_
        refine lv_istore_n (pc := 27) (lv' := [(3, .int (nI (i + 1))), (2, .int (nI (i))), (0, .ref (a 0)), (1, .int (nI (b)))]) hx hb d_X_findEndings_27 rfl hl (by decide) rfl (fun ls hl => ?_)
        refine nr_iconst (pc := 28) hx hb 0 rfl d_X_findEndings_28 ?_
        refine lv_istore (pc := 29) (lv' := [(4, .int (nI (0))), (3, .int (nI (i + 1))), (2, .int (nI (i))), (0, .ref (a 0)), (1, .int (nI (b)))]) hx hb d_X_findEndings_29 hl (by decide) rfl (fun ls hl => ?_)
        have lp_31 : ∀ (fu : Nat) (q : Nat) (t : Nat), (i < q) → (q ≤ n) → (∀ x, i < x → x < q → rf_gt T n b x i) → (t + i + 1 ≤ q) → 48 - t < fu → ∀ (H : Heap) (locs : List Loc), X_I dC dI cA a A zs zs.heap H locs (T, Af', Fi, La, St, n, rc, cu) → ∀ ls : Array Slot, lv_has ls 6 [(4, .int (nI (t))), (3, .int (nI (q))), (2, .int (nI (i))), (0, .ref (a 0)), (1, .int (nI (b)))] → W zp l ze (rmL 2) zs zm za zb zt zc H locs 0 0 Q (F0 zm 31 ls []) := by
          intro fu
          induction fu with
          | zero =>
            intro q t hq1 hq2 hq3 ht hfu
            exact absurd hfu (Nat.not_lt_zero _)
          | succ fu ih_31 =>
            intro q t hq1 hq2 hq3 ht hfu H locs I ls hl
            refine lv_iload (pc := 31) hx hb d_X_findEndings_31 (lv_at hl 0 rfl) ?_
            refine nr_bipush (pc := 33) hx hb 48 (by decide) d_X_findEndings_33 ?_
            refine nr_icmp_ge (pc := 35) (tgt := 76) hx hb (by omega) (by decide) d_X_findEndings_35 (by decide) (fun c_35 => ?_) (fun c_35 => ?_)
            · exact absurd c_35 (by omega)
            · refine lv_iload_n (pc := 38) hx hb d_X_findEndings_38 rfl (lv_at hl 1 rfl) ?_
              refine lv_aload_n (pc := 39) hx hb d_X_findEndings_39 rfl (lv_at hl 3 rfl) ?_
              refine X_get_length (pc := 40) S I d_X_findEndings_40 ?_
              refine nr_icmp_ge (pc := 43) (tgt := 76) hx hb (by omega) (by omega) d_X_findEndings_43 (by decide) (fun c_43 => ?_) (fun c_43 => ?_)
              · have hfin : q < n → ¬ rf_gt T n b q i := fun h => absurd h (by omega)
                refine lv_aload_n (pc := 76) hx hb d_X_findEndings_76 rfl (lv_at hl 3 rfl) ?_
                refine X_get_after (pc := 77) S I d_X_findEndings_77 ?_
                refine lv_iload_n (pc := 80) hx hb d_X_findEndings_80 rfl (lv_at hl 2 rfl) ?_
                refine lv_iload_n (pc := 81) hx hb d_X_findEndings_81 rfl (lv_at hl 1 rfl) ?_
                refine X_ast2 (pc := 82) S I (by omega) d_X_findEndings_82 (fun H locs I => ?_)
                have hA2 : ∀ x, i ≤ x → x < n → rf_ns T n b x (upN Af' i q x) := by
                  intro x h1 h2
                  by_cases e : x = i
                  · rw [e, upN_s]; exact ⟨hq1, hq2, hq3, hfin⟩
                  · rw [upN_n e]; exact hA x (by omega) h2
                refine lv_iinc (pc := 83) (v := (nI i - nI 1)) (lv' := [(2, .int (nI i - nI 1)), (4, .int (nI (t))), (3, .int (nI (q))), (0, .ref (a 0)), (1, .int (nI (b)))]) hx hb d_X_findEndings_83 hl (k := 2) rfl (by rw [Int32.sub_eq_add_neg]; rfl) (by decide) rfl (fun ls hl => ?_)
                refine lv_goto (pc := 86) (tgt := 20) hx hb d_X_findEndings_86 (by decide) ?_
                exact ih_20 i (upN Af' i q) (by omega) hA2 (by omega) _ _ I ls (lv_sub hl [0, 3, 4] rfl)
              · refine lv_aload_n (pc := 46) hx hb d_X_findEndings_46 rfl (lv_at hl 3 rfl) ?_
                refine lv_iload_n (pc := 47) hx hb d_X_findEndings_47 rfl (lv_at hl 1 rfl) ?_
                refine lv_iload_n (pc := 48) hx hb d_X_findEndings_48 rfl (lv_at hl 2 rfl) ?_
                refine lv_iload_n (pc := 49) hx hb d_X_findEndings_49 rfl (lv_at hl 4 rfl) ?_
                refine X_calli (pc := 50) (rest := []) [.int (nI (q)), .int (nI (i)), .int (nI (b))] S (c_X_comesBefore l dC dI cA a T Af' Fi La St n rc cu q i b hn hT hq1 (by omega) hbb) k_X_X_comesBefore e_X_comesBefore rfl rfl ⟨Nat.le_of_ble_eq_true rfl, Nat.le_of_ble_eq_true rfl⟩ I rfl hl.1 rfl (Nat.le_of_ble_eq_true rfl) d_X_findEndings_50 (fun r u H locs hw I => ?_)
                obtain ⟨z, rfl, hz, ez, rfl⟩ := hw
                refine lv_istore (pc := 53) (lv' := [(5, .int (nI (z))), (4, .int (nI (t))), (3, .int (nI (q))), (2, .int (nI (i))), (0, .ref (a 0)), (1, .int (nI (b)))]) hx hb d_X_findEndings_53 hl (by decide) rfl (fun ls hl => ?_)
                refine lv_iload (pc := 55) hx hb d_X_findEndings_55 (lv_at hl 0 rfl) ?_
                refine nr_if_eq (pc := 57) (tgt := 63) hx hb (by omega) d_X_findEndings_57 (by decide) (fun c_57 => ?_) (fun c_57 => ?_)
                · have hnA := hA q (by omega) c_43
                  have hgi : rf_gt T n b q i := Classical.byContradiction fun w => (ez.mpr w) c_57
                  have hq3b : ∀ x, i < x → x < Af' q → rf_gt T n b x i := by
                    intro x h1 h2
                    rcases Nat.lt_trichotomy x q with w | w | w
                    · exact hq3 x h1 w
                    · rw [w]; exact hgi
                    · exact rf_gt_trans hgi (hnA.2.2.1 x w h2)
                  have hn1 := hnA.1
                  have hn2 := hnA.2.1
                  refine lv_aload_n (pc := 63) hx hb d_X_findEndings_63 rfl (lv_at hl 4 rfl) ?_
                  refine X_get_after (pc := 64) S I d_X_findEndings_64 ?_
                  refine lv_iload_n (pc := 67) hx hb d_X_findEndings_67 rfl (lv_at hl 2 rfl) ?_
                  refine X_ald2 (pc := 68) S I (by omega) d_X_findEndings_68 ?_
                  refine lv_istore_n (pc := 69) (lv' := [(3, .int (nI (Af' q))), (5, .int (nI (z))), (4, .int (nI (t))), (2, .int (nI (i))), (0, .ref (a 0)), (1, .int (nI (b)))]) hx hb d_X_findEndings_69 rfl hl (by decide) rfl (fun ls hl => ?_)
                  refine nr_iinc (pc := 70) (lv' := [(4, .int (nI (t + 1))), (3, .int (nI (Af' q))), (5, .int (nI (z))), (2, .int (nI (i))), (0, .ref (a 0)), (1, .int (nI (b)))]) hx hb d_X_findEndings_70 hl (d := 1) rfl (k := 2) rfl (by decide) rfl (fun ls hl => ?_)
                  refine lv_goto (pc := 73) (tgt := 31) hx hb d_X_findEndings_73 (by decide) ?_
                  exact ih_31 (Af' q) (t + 1) (by omega) (by omega) hq3b (by omega) (by omega) _ _ I ls (lv_sub hl [0, 1, 3, 4, 5] rfl)
                · have hfin : q < n → ¬ rf_gt T n b q i := fun _ => ez.mp c_57
                  refine lv_goto (pc := 60) (tgt := 76) hx hb d_X_findEndings_60 (by decide) ?_
                  refine lv_aload_n (pc := 76) hx hb d_X_findEndings_76 rfl (lv_at hl 4 rfl) ?_
                  refine X_get_after (pc := 77) S I d_X_findEndings_77 ?_
                  refine lv_iload_n (pc := 80) hx hb d_X_findEndings_80 rfl (lv_at hl 3 rfl) ?_
                  refine lv_iload_n (pc := 81) hx hb d_X_findEndings_81 rfl (lv_at hl 2 rfl) ?_
                  refine X_ast2 (pc := 82) S I (by omega) d_X_findEndings_82 (fun H locs I => ?_)
                  have hA2 : ∀ x, i ≤ x → x < n → rf_ns T n b x (upN Af' i q x) := by
                    intro x h1 h2
                    by_cases e : x = i
                    · rw [e, upN_s]; exact ⟨hq1, hq2, hq3, hfin⟩
                    · rw [upN_n e]; exact hA x (by omega) h2
                  refine lv_iinc (pc := 83) (v := (nI i - nI 1)) (lv' := [(2, .int (nI i - nI 1)), (5, .int (nI (z))), (4, .int (nI (t))), (3, .int (nI (q))), (0, .ref (a 0)), (1, .int (nI (b)))]) hx hb d_X_findEndings_83 hl (k := 3) rfl (by rw [Int32.sub_eq_add_neg]; rfl) (by decide) rfl (fun ls hl => ?_)
                  refine lv_goto (pc := 86) (tgt := 20) hx hb d_X_findEndings_86 (by decide) ?_
                  exact ih_20 i (upN Af' i q) (by omega) hA2 (by omega) _ _ I ls (lv_sub hl [0, 4, 5] rfl)
        exact lp_31 _ (i + 1) 0 (by omega) (by omega) (fun x h1 h2 => absurd h2 (by omega)) (by omega) (Nat.lt_succ_self _) _ _ I ls (lv_sub hl [0, 1, 2, 3, 4] rfl)
  exact lp_20 _ n (upN Af n n) (by omega) (fun x h1 h2 => absurd h2 (by omega)) (Nat.lt_succ_self _) _ _ I ls (lv_sub hl [0, 1, 2] rfl)
set_option maxHeartbeats 4000000 in
set_option maxRecDepth 20000 in
/-- a run goes into the list -/
theorem c_X_insert (l : Launch) (dC : Nat → ClassId) (dI : Nat → Nat → Nat) (cA : ClassId) (a : Nat → Nat) (T Af Fi La St : Nat → Nat) (n rc cu : Nat) (i j p : Nat) (hn : n ≤ 48) (hL : rf_lst T n rc Fi La St) (hr : rf_run T n i j p) : X_Mv l dC dI cA a y_X_insert b_X_insert 6 (rmL 0) [.int (nI (i)), .int (nI (j)), .int (nI (p))] (T, Af, Fi, La, St, n, rc, cu) (fun u => ∃ (Fi' La' St' : Nat → Nat) (rc' : Nat), rf_lst T n rc' Fi' La' St' ∧ (∀ i' j' p', rf_has rc Fi La St i' j' p' → rf_has rc' Fi' La' St' i' j' p') ∧ rf_has rc' Fi' La' St' i j p ∧ u = (T, Af, Fi', La', St', n, rc', cu)) := by
  refine X_metv (by decide) rfl (Nat.le_of_ble_eq_true rfl) ?_
  intro zp ze zs zm za zb zt zc A Q S I hret ls hl
  have hl : lv_has ls 6 [(0, .ref (a 0)), (1, .int (nI (i))), (2, .int (nI (j))), (3, .int (nI (p)))] := hl
  have hx := S.1
  have hb := S.2.1
  have hrc := rf_lst_le hL
  have hr0 := hr.1
  have hr1 := hr.2.1
  have hr2 := hr.2.2.1
  refine lv_aload_n (pc := 0) hx hb d_X_insert_0 rfl (lv_at hl 0 rfl) ?_
  refine X_get_runCount (pc := 1) S I d_X_insert_1 ?_
  refine lv_istore (pc := 4) (lv' := [(4, .int (nI (rc))), (0, .ref (a 0)), (1, .int (nI (i))), (2, .int (nI (j))), (3, .int (nI (p)))]) hx hb d_X_insert_4 hl (by decide) rfl (fun ls hl => ?_)
  have jn_56 : ∀ (x : Nat), (x ≤ rc) → (∀ r, x ≤ r → r < rc → rf_lex i p (Fi r) (St r)) → (x = 0 ∨ Fi (x - 1) < i ∨ (Fi (x - 1) = i ∧ St (x - 1) ≤ p)) → ∀ (H : Heap) (locs : List Loc), X_I dC dI cA a A zs zs.heap H locs (T, Af, Fi, La, St, n, rc, cu) → ∀ ls : Array Slot, lv_has ls 6 [(4, .int (nI (x))), (0, .ref (a 0)), (1, .int (nI (i))), (2, .int (nI (j))), (3, .int (nI (p)))] → W zp l ze (rmL 0) zs zm za zb zt zc H locs 0 0 Q (F0 zm 56 ls []) := by
    intro x hxr hgt hle H locs I ls hl
    refine lv_iload (pc := 56) hx hb d_X_insert_56 (lv_at hl 0 rfl) ?_
    have jn_87 : ∀ (_u : Unit), (x = 0 ∨ rf_lex (Fi (x - 1)) (St (x - 1)) i p) → ∀ (H : Heap) (locs : List Loc), X_I dC dI cA a A zs zs.heap H locs (T, Af, Fi, La, St, n, rc, cu) → ∀ ls : Array Slot, lv_has ls 6 [(4, .int (nI (x))), (0, .ref (a 0)), (1, .int (nI (i))), (2, .int (nI (j))), (3, .int (nI (p)))] → W zp l ze (rmL 0) zs zm za zb zt zc H locs 0 0 Q (F0 zm 87 ls []) := by
      intro _u hlt H locs I ls hl
      refine lv_aload_n (pc := 87) hx hb d_X_insert_87 rfl (lv_at hl 1 rfl) ?_
      refine X_get_runCount (pc := 88) S I d_X_insert_88 ?_
      refine nr_bipush (pc := 91) hx hb 100 (by decide) d_X_insert_91 ?_
      refine nr_icmp_ne (pc := 93) (tgt := 97) hx hb (by omega) (by decide) d_X_insert_93 (by decide) (fun c_93 => ?_) (fun c_93 => ?_)
      · refine lv_aload_n (pc := 97) hx hb d_X_insert_97 rfl (lv_at hl 1 rfl) ?_
        refine X_get_runCount (pc := 98) S I d_X_insert_98 ?_
        refine lv_istore (pc := 101) (lv' := [(5, .int (nI (rc))), (4, .int (nI (x))), (0, .ref (a 0)), (1, .int (nI (i))), (2, .int (nI (j))), (3, .int (nI (p)))]) hx hb d_X_insert_101 hl (by decide) rfl (fun ls hl => ?_)
        have lp_103 : ∀ (fu : Nat) (y : Nat), (x ≤ y) → (y ≤ rc) → y < fu → ∀ (H : Heap) (locs : List Loc), X_I dC dI cA a A zs zs.heap H locs (T, Af, rf_sh Fi y rc, rf_sh La y rc, rf_sh St y rc, n, rc, cu) → ∀ ls : Array Slot, lv_has ls 6 [(5, .int (nI (y))), (4, .int (nI (x))), (0, .ref (a 0)), (1, .int (nI (i))), (2, .int (nI (j))), (3, .int (nI (p)))] → W zp l ze (rmL 0) zs zm za zb zt zc H locs 0 0 Q (F0 zm 103 ls []) := by
          intro fu
          induction fu with
          | zero =>
            intro y hy1 hy2 hfu
            exact absurd hfu (Nat.not_lt_zero _)
          | succ fu ih_103 =>
            intro y hy1 hy2 hfu H locs I ls hl
            refine lv_iload (pc := 103) hx hb d_X_insert_103 (lv_at hl 0 rfl) ?_
            refine lv_iload (pc := 105) hx hb d_X_insert_105 (lv_at hl 1 rfl) ?_
            refine nr_icmp_le (pc := 107) (tgt := 164) hx hb (by omega) (by omega) d_X_insert_107 (by decide) (fun c_107 => ?_) (fun c_107 => ?_)
            · obtain rfl : x = y := by omega
              refine lv_aload_n (pc := 164) hx hb d_X_insert_164 rfl (lv_at hl 2 rfl) ?_
              refine X_get_first (pc := 165) S I d_X_insert_165 ?_
              refine lv_iload (pc := 168) hx hb d_X_insert_168 (lv_at hl 1 rfl) ?_
              refine lv_iload_n (pc := 170) hx hb d_X_insert_170 rfl (lv_at hl 3 rfl) ?_
              refine X_ast3 (pc := 171) S I (by omega) d_X_insert_171 (fun H locs I => ?_)
              refine lv_aload_n (pc := 172) hx hb d_X_insert_172 rfl (lv_at hl 2 rfl) ?_
              refine X_get_last (pc := 173) S I d_X_insert_173 ?_
              refine lv_iload (pc := 176) hx hb d_X_insert_176 (lv_at hl 1 rfl) ?_
              refine lv_iload_n (pc := 178) hx hb d_X_insert_178 rfl (lv_at hl 4 rfl) ?_
              refine X_ast4 (pc := 179) S I (by omega) d_X_insert_179 (fun H locs I => ?_)
              refine lv_aload_n (pc := 180) hx hb d_X_insert_180 rfl (lv_at hl 2 rfl) ?_
              refine X_get_step (pc := 181) S I d_X_insert_181 ?_
              refine lv_iload (pc := 184) hx hb d_X_insert_184 (lv_at hl 1 rfl) ?_
              refine lv_iload_n (pc := 186) hx hb d_X_insert_186 rfl (lv_at hl 5 rfl) ?_
              refine X_ast5 (pc := 187) S I (by omega) d_X_insert_187 (fun H locs I => ?_)
              refine lv_aload_n (pc := 188) hx hb d_X_insert_188 rfl (lv_at hl 2 rfl) ?_
              refine lv_dup (pc := 189) hx hb d_X_insert_189 rfl ?_
              refine X_get_runCount (pc := 190) S I d_X_insert_190 ?_
              refine nr_iconst (pc := 193) hx hb 1 rfl d_X_insert_193 ?_
              refine nr_iadd (pc := 194) hx hb d_X_insert_194 ?_
              refine X_put_runCount (pc := 195) S I d_X_insert_195 (fun H locs I => ?_)
              exact hret _ _ _ _ _ I d_X_insert_198 ⟨_, _, _, _, (rf_ins hL hr hxr hgt hlt).1, (rf_ins hL hr hxr hgt hlt).2.1, (rf_ins hL hr hxr hgt hlt).2.2, rfl⟩
            · refine lv_aload_n (pc := 110) hx hb d_X_insert_110 rfl (lv_at hl 2 rfl) ?_
              refine X_get_first (pc := 111) S I d_X_insert_111 ?_
              refine lv_iload (pc := 114) hx hb d_X_insert_114 (lv_at hl 0 rfl) ?_
              refine lv_aload_n (pc := 116) hx hb d_X_insert_116 rfl (lv_at hl 2 rfl) ?_
              refine X_get_first (pc := 117) S I d_X_insert_117 ?_
              refine lv_iload (pc := 120) hx hb d_X_insert_120 (lv_at hl 0 rfl) ?_
              refine nr_iconst (pc := 122) hx hb 1 rfl d_X_insert_122 ?_
              refine nr_isub (pc := 123) hx hb (by omega) d_X_insert_123 ?_
              refine X_ald3 (pc := 124) S I (by omega) d_X_insert_124 ?_
              refine X_ast3 (pc := 125) S I (by omega) d_X_insert_125 (fun H locs I => ?_)
              refine lv_aload_n (pc := 126) hx hb d_X_insert_126 rfl (lv_at hl 2 rfl) ?_
              refine X_get_last (pc := 127) S I d_X_insert_127 ?_
              refine lv_iload (pc := 130) hx hb d_X_insert_130 (lv_at hl 0 rfl) ?_
              refine lv_aload_n (pc := 132) hx hb d_X_insert_132 rfl (lv_at hl 2 rfl) ?_
              refine X_get_last (pc := 133) S I d_X_insert_133 ?_
              refine lv_iload (pc := 136) hx hb d_X_insert_136 (lv_at hl 0 rfl) ?_
              refine nr_iconst (pc := 138) hx hb 1 rfl d_X_insert_138 ?_
              refine nr_isub (pc := 139) hx hb (by omega) d_X_insert_139 ?_
              refine X_ald4 (pc := 140) S I (by omega) d_X_insert_140 ?_
              refine X_ast4 (pc := 141) S I (by omega) d_X_insert_141 (fun H locs I => ?_)
              refine lv_aload_n (pc := 142) hx hb d_X_insert_142 rfl (lv_at hl 2 rfl) ?_
              refine X_get_step (pc := 143) S I d_X_insert_143 ?_
              refine lv_iload (pc := 146) hx hb d_X_insert_146 (lv_at hl 0 rfl) ?_
              refine lv_aload_n (pc := 148) hx hb d_X_insert_148 rfl (lv_at hl 2 rfl) ?_
              refine X_get_step (pc := 149) S I d_X_insert_149 ?_
              refine lv_iload (pc := 152) hx hb d_X_insert_152 (lv_at hl 0 rfl) ?_
              refine nr_iconst (pc := 154) hx hb 1 rfl d_X_insert_154 ?_
              refine nr_isub (pc := 155) hx hb (by omega) d_X_insert_155 ?_
              refine X_ald5 (pc := 156) S I (by omega) d_X_insert_156 ?_
              refine X_ast5 (pc := 157) S I (by omega) d_X_insert_157 (fun H locs I => ?_)
              refine nr_idec (pc := 158) (lv' := [(5, .int (nI (y - 1))), (4, .int (nI (x))), (0, .ref (a 0)), (1, .int (nI (i))), (2, .int (nI (j))), (3, .int (nI (p)))]) hx hb d_X_insert_158 hl (by omega) (k := 0) rfl (by decide) rfl (fun ls hl => ?_)
              refine lv_goto (pc := 161) (tgt := 103) hx hb d_X_insert_161 (by decide) ?_
              rw [rf_sh_step (F := Fi) (by omega) hy2, rf_sh_step (F := La) (by omega) hy2, rf_sh_step (F := St) (by omega) hy2] at I
              exact ih_103 (y - 1) (by omega) (by omega) (by omega) _ _ I ls (lv_sub hl [0, 1, 2, 3, 4, 5] rfl)
        rw [← rf_sh_self Fi rc, ← rf_sh_self La rc, ← rf_sh_self St rc] at I
        exact lp_103 _ rc (by omega) (by omega) (Nat.lt_succ_self _) _ _ I ls (lv_sub hl [0, 1, 2, 3, 4, 5] rfl)
      · exact absurd c_93 (by omega)
    refine nr_if_le (pc := 58) (tgt := 87) hx hb (by omega) d_X_insert_58 (by decide) (fun c_58 => ?_) (fun c_58 => ?_)
    · exact jn_87 (()) (by unfold rf_lex; omega) _ _ I ls (lv_sub hl [0, 1, 2, 3, 4] rfl)
    · have hR := hL.1 (x - 1) (by omega)
      have hR0 := hR.1
      have hR1 := hR.2.1
      have hR2 := hR.2.2.1
      refine lv_aload_n (pc := 61) hx hb d_X_insert_61 rfl (lv_at hl 1 rfl) ?_
      refine X_get_first (pc := 62) S I d_X_insert_62 ?_
      refine lv_iload (pc := 65) hx hb d_X_insert_65 (lv_at hl 0 rfl) ?_
      refine nr_iconst (pc := 67) hx hb 1 rfl d_X_insert_67 ?_
      refine nr_isub (pc := 68) hx hb (by omega) d_X_insert_68 ?_
      refine X_ald3 (pc := 69) S I (by omega) d_X_insert_69 ?_
      refine lv_iload_n (pc := 70) hx hb d_X_insert_70 rfl (lv_at hl 2 rfl) ?_
      refine nr_icmp_ne (pc := 71) (tgt := 87) hx hb (by omega) (by omega) d_X_insert_71 (by decide) (fun c_71 => ?_) (fun c_71 => ?_)
      · exact jn_87 (()) (by unfold rf_lex; omega) _ _ I ls (lv_sub hl [0, 1, 2, 3, 4] rfl)
      · refine lv_aload_n (pc := 74) hx hb d_X_insert_74 rfl (lv_at hl 1 rfl) ?_
        refine X_get_step (pc := 75) S I d_X_insert_75 ?_
        refine lv_iload (pc := 78) hx hb d_X_insert_78 (lv_at hl 0 rfl) ?_
        refine nr_iconst (pc := 80) hx hb 1 rfl d_X_insert_80 ?_
        refine nr_isub (pc := 81) hx hb (by omega) d_X_insert_81 ?_
        refine X_ald5 (pc := 82) S I (by omega) d_X_insert_82 ?_
        refine lv_iload_n (pc := 83) hx hb d_X_insert_83 rfl (lv_at hl 4 rfl) ?_
        refine nr_icmp_eq (pc := 84) (tgt := 96) hx hb (by omega) (by omega) d_X_insert_84 (by decide) (fun c_84 => ?_) (fun c_84 => ?_)
        · exact hret _ _ _ _ _ I d_X_insert_96 ⟨Fi, La, St, rc, hL, fun _ _ _ h => h, ⟨x - 1, by omega, c_71, by have hR' := hR; rw [c_71, c_84] at hR'; exact (rf_run_u hR' hr (Nat.le_refl _) (Nat.le_refl _) (by omega) (by omega)).2, c_84⟩, rfl⟩
        · exact jn_87 (()) (by unfold rf_lex; omega) _ _ I ls (lv_sub hl [0, 1, 2, 3, 4] rfl)
  have lp_6 : ∀ (fu : Nat) (x : Nat), (x ≤ rc) → (∀ r, x ≤ r → r < rc → rf_lex i p (Fi r) (St r)) → x < fu → ∀ (H : Heap) (locs : List Loc), X_I dC dI cA a A zs zs.heap H locs (T, Af, Fi, La, St, n, rc, cu) → ∀ ls : Array Slot, lv_has ls 6 [(4, .int (nI (x))), (0, .ref (a 0)), (1, .int (nI (i))), (2, .int (nI (j))), (3, .int (nI (p)))] → W zp l ze (rmL 0) zs zm za zb zt zc H locs 0 0 Q (F0 zm 6 ls []) := by
    intro fu
    induction fu with
    | zero =>
      intro x hxr hgt hfu
      exact absurd hfu (Nat.not_lt_zero _)
    | succ fu ih_6 =>
      intro x hxr hgt hfu H locs I ls hl
      refine lv_iload (pc := 6) hx hb d_X_insert_6 (lv_at hl 0 rfl) ?_
      refine nr_if_le (pc := 8) (tgt := 56) hx hb (by omega) d_X_insert_8 (by decide) (fun c_8 => ?_) (fun c_8 => ?_)
      · exact jn_56 x (by omega) hgt (by omega) _ _ I ls (lv_sub hl [0, 1, 2, 3, 4] rfl)
      · have hR := hL.1 (x - 1) (by omega)
        have hR0 := hR.1
        have hR1 := hR.2.1
        have hR2 := hR.2.2.1
        refine lv_aload_n (pc := 11) hx hb d_X_insert_11 rfl (lv_at hl 1 rfl) ?_
        refine X_get_first (pc := 12) S I d_X_insert_12 ?_
        refine lv_iload (pc := 15) hx hb d_X_insert_15 (lv_at hl 0 rfl) ?_
        refine nr_iconst (pc := 17) hx hb 1 rfl d_X_insert_17 ?_
        refine nr_isub (pc := 18) hx hb (by omega) d_X_insert_18 ?_
        refine X_ald3 (pc := 19) S I (by omega) d_X_insert_19 ?_
        refine lv_iload_n (pc := 20) hx hb d_X_insert_20 rfl (lv_at hl 2 rfl) ?_
        refine nr_icmp_gt (pc := 21) (tgt := 50) hx hb (by omega) (by omega) d_X_insert_21 (by decide) (fun c_21 => ?_) (fun c_21 => ?_)
        · have hgt2 : ∀ r, x - 1 ≤ r → r < rc → rf_lex i p (Fi r) (St r) := by
            intro r h1 h2
            rcases Nat.lt_or_ge r x with w | w
            · rw [show r = x - 1 by omega]; unfold rf_lex; omega
            · exact hgt r w h2
          refine nr_idec (pc := 50) (lv' := [(4, .int (nI (x - 1))), (0, .ref (a 0)), (1, .int (nI (i))), (2, .int (nI (j))), (3, .int (nI (p)))]) hx hb d_X_insert_50 hl (by omega) (k := 0) rfl (by decide) rfl (fun ls hl => ?_)
          refine lv_goto (pc := 53) (tgt := 6) hx hb d_X_insert_53 (by decide) ?_
          exact ih_6 (x - 1) (by omega) hgt2 (by omega) _ _ I ls (lv_sub hl [0, 1, 2, 3, 4] rfl)
        · refine lv_aload_n (pc := 24) hx hb d_X_insert_24 rfl (lv_at hl 1 rfl) ?_
          refine X_get_first (pc := 25) S I d_X_insert_25 ?_
          refine lv_iload (pc := 28) hx hb d_X_insert_28 (lv_at hl 0 rfl) ?_
          refine nr_iconst (pc := 30) hx hb 1 rfl d_X_insert_30 ?_
          refine nr_isub (pc := 31) hx hb (by omega) d_X_insert_31 ?_
          refine X_ald3 (pc := 32) S I (by omega) d_X_insert_32 ?_
          refine lv_iload_n (pc := 33) hx hb d_X_insert_33 rfl (lv_at hl 2 rfl) ?_
          refine nr_icmp_ne (pc := 34) (tgt := 56) hx hb (by omega) (by omega) d_X_insert_34 (by decide) (fun c_34 => ?_) (fun c_34 => ?_)
          · exact jn_56 x (by omega) hgt (by omega) _ _ I ls (lv_sub hl [0, 1, 2, 3, 4] rfl)
          · refine lv_aload_n (pc := 37) hx hb d_X_insert_37 rfl (lv_at hl 1 rfl) ?_
            refine X_get_step (pc := 38) S I d_X_insert_38 ?_
            refine lv_iload (pc := 41) hx hb d_X_insert_41 (lv_at hl 0 rfl) ?_
            refine nr_iconst (pc := 43) hx hb 1 rfl d_X_insert_43 ?_
            refine nr_isub (pc := 44) hx hb (by omega) d_X_insert_44 ?_
            refine X_ald5 (pc := 45) S I (by omega) d_X_insert_45 ?_
            refine lv_iload_n (pc := 46) hx hb d_X_insert_46 rfl (lv_at hl 4 rfl) ?_
            refine nr_icmp_le (pc := 47) (tgt := 56) hx hb (by omega) (by omega) d_X_insert_47 (by decide) (fun c_47 => ?_) (fun c_47 => ?_)
            · exact jn_56 x (by omega) hgt (by omega) _ _ I ls (lv_sub hl [0, 1, 2, 3, 4] rfl)
            · have hgt2 : ∀ r, x - 1 ≤ r → r < rc → rf_lex i p (Fi r) (St r) := by
                intro r h1 h2
                rcases Nat.lt_or_ge r x with w | w
                · rw [show r = x - 1 by omega]; unfold rf_lex; omega
                · exact hgt r w h2
              refine nr_idec (pc := 50) (lv' := [(4, .int (nI (x - 1))), (0, .ref (a 0)), (1, .int (nI (i))), (2, .int (nI (j))), (3, .int (nI (p)))]) hx hb d_X_insert_50 hl (by omega) (k := 0) rfl (by decide) rfl (fun ls hl => ?_)
              refine lv_goto (pc := 53) (tgt := 6) hx hb d_X_insert_53 (by decide) ?_
              exact ih_6 (x - 1) (by omega) hgt2 (by omega) _ _ I ls (lv_sub hl [0, 1, 2, 3, 4] rfl)
  exact lp_6 _ rc (by omega) (fun r h1 h2 => absurd h2 (by omega)) (Nat.lt_succ_self _) _ _ I ls (lv_sub hl [0, 1, 2, 3, 4] rfl)
set_option maxHeartbeats 4000000 in
set_option maxRecDepth 20000 in
/-- a root is widened -/
theorem c_X_widen (l : Launch) (dC : Nat → ClassId) (dI : Nat → Nat → Nat) (cA : ClassId) (a : Nat → Nat) (T Af Fi La St : Nat → Nat) (n rc cu : Nat) (i k b : Nat) (hn : n ≤ 48) (hT : ∀ i, T i ≤ 3) (hL : rf_lst T n rc Fi La St) (hns : rf_ns T n b i k) : X_Mv l dC dI cA a y_X_widen b_X_widen 6 (rmL 1) [.int (nI (i)), .int (nI (k))] (T, Af, Fi, La, St, n, rc, cu) (fun u => ∃ (Fi' La' St' : Nat → Nat) (rc' : Nat), rf_lst T n rc' Fi' La' St' ∧ (∀ i' j' p', rf_has rc Fi La St i' j' p' → rf_has rc' Fi' La' St' i' j' p') ∧ rf_fnd T n b i rc' Fi' La' St' ∧ u = (T, Af, Fi', La', St', n, rc', cu)) := by
  refine X_metv (by decide) rfl (Nat.le_of_ble_eq_true rfl) ?_
  intro zp ze zs zm za zb zt zc A Q S I hret ls hl
  have hl : lv_has ls 6 [(0, .ref (a 0)), (1, .int (nI (i))), (2, .int (nI (k)))] := hl
  have hx := S.1
  have hb := S.2.1
  have hik := hns.1
  have hkn := hns.2.1
  refine lv_iload_n (pc := 0) hx hb d_X_widen_0 rfl (lv_at hl 2 rfl) ?_
  refine lv_iload_n (pc := 1) hx hb d_X_widen_1 rfl (lv_at hl 1 rfl) ?_
  refine nr_isub (pc := 2) hx hb (by omega) d_X_widen_2 ?_
  refine lv_istore_n (pc := 3) (lv' := [(3, .int (nI (k - i))), (0, .ref (a 0)), (1, .int (nI (i))), (2, .int (nI (k)))]) hx hb d_X_widen_3 rfl hl (by decide) rfl (fun ls hl => ?_)
  refine lv_iload_n (pc := 4) hx hb d_X_widen_4 rfl (lv_at hl 3 rfl) ?_
  refine lv_aload_n (pc := 5) hx hb d_X_widen_5 rfl (lv_at hl 1 rfl) ?_
  refine X_get_length (pc := 6) S I d_X_widen_6 ?_
  refine nr_icmp_ge (pc := 9) (tgt := 21) hx hb (by omega) (by omega) d_X_widen_9 (by decide) (fun c_9 => ?_) (fun c_9 => ?_)
  · have hF : rf_F T n i k 0 := ⟨fun t ht => absurd ht (Nat.not_lt_zero _), fun w => by omega⟩
    have hfl := rf_F_le hF hkn
    refine nr_iconst (pc := 21) hx hb 0 rfl d_X_widen_21 ?_
    refine lv_istore (pc := 22) (lv' := [(4, .int (nI (0))), (3, .int (nI (k - i))), (0, .ref (a 0)), (1, .int (nI (i))), (2, .int (nI (k)))]) hx hb d_X_widen_22 hl (by decide) rfl (fun ls hl => ?_)
    refine lv_aload_n (pc := 24) hx hb d_X_widen_24 rfl (lv_at hl 2 rfl) ?_
    refine lv_iload_n (pc := 25) hx hb d_X_widen_25 rfl (lv_at hl 3 rfl) ?_
    refine lv_iload_n (pc := 26) hx hb d_X_widen_26 rfl (lv_at hl 4 rfl) ?_
    refine X_calli (pc := 27) (rest := []) [.int (nI (i)), .int (nI (k))] S (c_X_backward l dC dI cA a T Af Fi La St n rc cu i k hn hT (by omega) (by omega)) k_X_X_backward e_X_backward rfl rfl ⟨Nat.le_of_ble_eq_true rfl, Nat.le_of_ble_eq_true rfl⟩ I rfl hl.1 rfl (Nat.le_of_ble_eq_true rfl) d_X_widen_27 (fun r u H locs hw I => ?_)
    obtain ⟨g, rfl, hB, rfl⟩ := hw
    have hgl := rf_B_le hB
    refine lv_istore (pc := 30) (lv' := [(5, .int (nI (g))), (4, .int (nI (0))), (3, .int (nI (k - i))), (0, .ref (a 0)), (1, .int (nI (i))), (2, .int (nI (k)))]) hx hb d_X_widen_30 hl (by decide) rfl (fun ls hl => ?_)
    refine lv_iload (pc := 32) hx hb d_X_widen_32 (lv_at hl 0 rfl) ?_
    refine lv_iload (pc := 34) hx hb d_X_widen_34 (lv_at hl 1 rfl) ?_
    refine nr_iadd (pc := 36) hx hb d_X_widen_36 ?_
    refine lv_iload_n (pc := 37) hx hb d_X_widen_37 rfl (lv_at hl 2 rfl) ?_
    refine nr_icmp_lt (pc := 38) (tgt := 56) hx hb (by omega) (by omega) d_X_widen_38 (by decide) (fun c_38 => ?_) (fun c_38 => ?_)
    · exact hret _ _ _ _ _ I d_X_widen_56 ⟨Fi, La, St, rc, hL, fun _ _ _ h => h, rf_fnd_of hns hF hB (fun w => absurd w (by omega)), rfl⟩
    · refine lv_aload_n (pc := 41) hx hb d_X_widen_41 rfl (lv_at hl 3 rfl) ?_
      refine lv_iload_n (pc := 42) hx hb d_X_widen_42 rfl (lv_at hl 4 rfl) ?_
      refine lv_iload (pc := 43) hx hb d_X_widen_43 (lv_at hl 0 rfl) ?_
      refine nr_isub (pc := 45) hx hb (by omega) d_X_widen_45 ?_
      refine lv_iload_n (pc := 46) hx hb d_X_widen_46 rfl (lv_at hl 5 rfl) ?_
      refine lv_iload (pc := 47) hx hb d_X_widen_47 (lv_at hl 1 rfl) ?_
      refine nr_iadd (pc := 49) hx hb d_X_widen_49 ?_
      refine nr_iconst (pc := 50) hx hb 1 rfl d_X_widen_50 ?_
      refine nr_isub (pc := 51) hx hb (by omega) d_X_widen_51 ?_
      refine lv_iload_n (pc := 52) hx hb d_X_widen_52 rfl (lv_at hl 2 rfl) ?_
      refine X_callv (pc := 53) (rest := []) [.int (nI (i - g)), .int (nI ((k + 0) - 1)), .int (nI (k - i))] S (c_X_insert l dC dI cA a T Af Fi La St n rc cu (i - g) (k + 0 - 1) (k - i) hn hL (rf_widen hns hF hB c_38)) k_X_X_insert e_X_insert rfl rfl ⟨Nat.le_of_ble_eq_true rfl, Nat.le_of_ble_eq_true rfl⟩ I rfl hl.1 rfl (Nat.le_of_ble_eq_true rfl) d_X_widen_53 (fun u H locs hw I => ?_)
      obtain ⟨Fi', La', St', rc', hL', hM', hH', rfl⟩ := hw
      exact hret _ _ _ _ _ I d_X_widen_56 ⟨Fi', La', St', rc', hL', hM', rf_fnd_of hns hF hB (fun _ => hH'), rfl⟩
  · refine lv_aload_n (pc := 12) hx hb d_X_widen_12 rfl (lv_at hl 1 rfl) ?_
    refine lv_iload_n (pc := 13) hx hb d_X_widen_13 rfl (lv_at hl 2 rfl) ?_
    refine lv_iload_n (pc := 14) hx hb d_X_widen_14 rfl (lv_at hl 3 rfl) ?_
    refine X_calli (pc := 15) (rest := []) [.int (nI (i)), .int (nI (k))] S (c_X_forward l dC dI cA a T Af Fi La St n rc cu i k hn hT (by omega) (by omega)) k_X_X_forward e_X_forward rfl rfl ⟨Nat.le_of_ble_eq_true rfl, Nat.le_of_ble_eq_true rfl⟩ I rfl hl.1 rfl (Nat.le_of_ble_eq_true rfl) d_X_widen_15 (fun r u H locs hw I => ?_)
    obtain ⟨f, rfl, hF, rfl⟩ := hw
    have hfl := rf_F_le hF hkn
    refine lv_goto (pc := 18) (tgt := 22) hx hb d_X_widen_18 (by decide) ?_
    refine lv_istore (pc := 22) (lv' := [(4, .int (nI (f))), (3, .int (nI (k - i))), (0, .ref (a 0)), (1, .int (nI (i))), (2, .int (nI (k)))]) hx hb d_X_widen_22 hl (by decide) rfl (fun ls hl => ?_)
    refine lv_aload_n (pc := 24) hx hb d_X_widen_24 rfl (lv_at hl 2 rfl) ?_
    refine lv_iload_n (pc := 25) hx hb d_X_widen_25 rfl (lv_at hl 3 rfl) ?_
    refine lv_iload_n (pc := 26) hx hb d_X_widen_26 rfl (lv_at hl 4 rfl) ?_
    refine X_calli (pc := 27) (rest := []) [.int (nI (i)), .int (nI (k))] S (c_X_backward l dC dI cA a T Af Fi La St n rc cu i k hn hT (by omega) (by omega)) k_X_X_backward e_X_backward rfl rfl ⟨Nat.le_of_ble_eq_true rfl, Nat.le_of_ble_eq_true rfl⟩ I rfl hl.1 rfl (Nat.le_of_ble_eq_true rfl) d_X_widen_27 (fun r u H locs hw I => ?_)
    obtain ⟨g, rfl, hB, rfl⟩ := hw
    have hgl := rf_B_le hB
    refine lv_istore (pc := 30) (lv' := [(5, .int (nI (g))), (4, .int (nI (f))), (3, .int (nI (k - i))), (0, .ref (a 0)), (1, .int (nI (i))), (2, .int (nI (k)))]) hx hb d_X_widen_30 hl (by decide) rfl (fun ls hl => ?_)
    refine lv_iload (pc := 32) hx hb d_X_widen_32 (lv_at hl 0 rfl) ?_
    refine lv_iload (pc := 34) hx hb d_X_widen_34 (lv_at hl 1 rfl) ?_
    refine nr_iadd (pc := 36) hx hb d_X_widen_36 ?_
    refine lv_iload_n (pc := 37) hx hb d_X_widen_37 rfl (lv_at hl 2 rfl) ?_
    refine nr_icmp_lt (pc := 38) (tgt := 56) hx hb (by omega) (by omega) d_X_widen_38 (by decide) (fun c_38 => ?_) (fun c_38 => ?_)
    · exact hret _ _ _ _ _ I d_X_widen_56 ⟨Fi, La, St, rc, hL, fun _ _ _ h => h, rf_fnd_of hns hF hB (fun w => absurd w (by omega)), rfl⟩
    · refine lv_aload_n (pc := 41) hx hb d_X_widen_41 rfl (lv_at hl 3 rfl) ?_
      refine lv_iload_n (pc := 42) hx hb d_X_widen_42 rfl (lv_at hl 4 rfl) ?_
      refine lv_iload (pc := 43) hx hb d_X_widen_43 (lv_at hl 0 rfl) ?_
      refine nr_isub (pc := 45) hx hb (by omega) d_X_widen_45 ?_
      refine lv_iload_n (pc := 46) hx hb d_X_widen_46 rfl (lv_at hl 5 rfl) ?_
      refine lv_iload (pc := 47) hx hb d_X_widen_47 (lv_at hl 1 rfl) ?_
      refine nr_iadd (pc := 49) hx hb d_X_widen_49 ?_
      refine nr_iconst (pc := 50) hx hb 1 rfl d_X_widen_50 ?_
      refine nr_isub (pc := 51) hx hb (by omega) d_X_widen_51 ?_
      refine lv_iload_n (pc := 52) hx hb d_X_widen_52 rfl (lv_at hl 2 rfl) ?_
      refine X_callv (pc := 53) (rest := []) [.int (nI (i - g)), .int (nI ((k + f) - 1)), .int (nI (k - i))] S (c_X_insert l dC dI cA a T Af Fi La St n rc cu (i - g) (k + f - 1) (k - i) hn hL (rf_widen hns hF hB c_38)) k_X_X_insert e_X_insert rfl rfl ⟨Nat.le_of_ble_eq_true rfl, Nat.le_of_ble_eq_true rfl⟩ I rfl hl.1 rfl (Nat.le_of_ble_eq_true rfl) d_X_widen_53 (fun u H locs hw I => ?_)
      obtain ⟨Fi', La', St', rc', hL', hM', hH', rfl⟩ := hw
      exact hret _ _ _ _ _ I d_X_widen_56 ⟨Fi', La', St', rc', hL', hM', rf_fnd_of hns hF hB (fun _ => hH'), rfl⟩
set_option maxHeartbeats 4000000 in
set_option maxRecDepth 20000 in
/-- all the runs, in order -/
theorem c_X_refresh (l : Launch) (dC : Nat → ClassId) (dI : Nat → Nat → Nat) (cA : ClassId) (a : Nat → Nat) (T Af Fi La St : Nat → Nat) (n rc cu : Nat) (hn : n ≤ 48) (hT : ∀ i, T i ≤ 3) (hcu : cu = 0 ∨ (cu = 1 ∧ rf_all T n rc Fi La St)) : X_Mv l dC dI cA a y_X_refresh b_X_refresh 3 (rmL 3) [] (T, Af, Fi, La, St, n, rc, cu) (fun u => ∃ (Af' Fi' La' St' : Nat → Nat) (rc' : Nat), rf_all T n rc' Fi' La' St' ∧ u = (T, Af', Fi', La', St', n, rc', 1)) := by
  refine X_metv (by decide) rfl (Nat.le_of_ble_eq_true rfl) ?_
  intro zp ze zs zm za zb zt zc A Q S I hret ls hl
  have hl : lv_has ls 3 [(0, .ref (a 0))] := hl
  have hx := S.1
  have hb := S.2.1
  refine lv_aload_n (pc := 0) hx hb d_X_refresh_0 rfl (lv_at hl 0 rfl) ?_
  refine X_get_current (pc := 1) S I d_X_refresh_1 ?_
  refine nr_if_eq (pc := 4) (tgt := 8) hx hb (by omega) d_X_refresh_4 (by decide) (fun c_4 => ?_) (fun c_4 => ?_)
  · refine lv_aload_n (pc := 8) hx hb d_X_refresh_8 rfl (lv_at hl 0 rfl) ?_
    refine nr_iconst (pc := 9) hx hb 1 rfl d_X_refresh_9 ?_
    refine X_put_current (pc := 10) S I (by omega) d_X_refresh_10 (fun H locs I => ?_)
    refine lv_aload_n (pc := 13) hx hb d_X_refresh_13 rfl (lv_at hl 0 rfl) ?_
    refine nr_iconst (pc := 14) hx hb 0 rfl d_X_refresh_14 ?_
    refine X_put_runCount (pc := 15) S I d_X_refresh_15 (fun H locs I => ?_)
    refine nr_iconst (pc := 18) hx hb 0 rfl d_X_refresh_18 ?_
    refine lv_istore_n (pc := 19) (lv' := [(1, .int (nI (0))), (0, .ref (a 0))]) hx hb d_X_refresh_19 rfl hl (by decide) rfl (fun ls hl => ?_)
    have lp_20 : ∀ (fu : Nat) (sd : Nat) (Af' : Nat → Nat) (Fi' : Nat → Nat) (La' : Nat → Nat) (St' : Nat → Nat) (rc' : Nat), (sd ≤ 2) → (rf_lst T n rc' Fi' La' St') → (∀ x, x < sd → ∀ y, y < n → rf_fnd T n (1 - x) y rc' Fi' La' St') → 2 - sd < fu → ∀ (H : Heap) (locs : List Loc), X_I dC dI cA a A zs zs.heap H locs (T, Af', Fi', La', St', n, rc', 1) → ∀ ls : Array Slot, lv_has ls 3 [(1, .int (nI (sd))), (0, .ref (a 0))] → W zp l ze (rmL 3) zs zm za zb zt zc H locs 0 0 Q (F0 zm 20 ls []) := by
      intro fu
      induction fu with
      | zero =>
        intro sd Af' Fi' La' St' rc' hsd hL hfd hfu
        exact absurd hfu (Nat.not_lt_zero _)
      | succ fu ih_20 =>
        intro sd Af' Fi' La' St' rc' hsd hL hfd hfu H locs I ls hl
        refine lv_iload_n (pc := 20) hx hb d_X_refresh_20 rfl (lv_at hl 0 rfl) ?_
        refine nr_iconst (pc := 21) hx hb 2 rfl d_X_refresh_21 ?_
        refine nr_icmp_ge (pc := 22) (tgt := 71) hx hb (by omega) (by decide) d_X_refresh_22 (by decide) (fun c_22 => ?_) (fun c_22 => ?_)
        · exact hret _ _ _ _ _ I d_X_refresh_71 ⟨Af', Fi', La', St', rc', rf_all_of hL (fun b hb2 y hy => by have := hfd (1 - b) (by omega) y hy; rw [show 1 - (1 - b) = b by omega] at this; exact this), rfl⟩
        · refine lv_aload_n (pc := 25) hx hb d_X_refresh_25 rfl (lv_at hl 1 rfl) ?_
          refine lv_iload_n (pc := 26) hx hb d_X_refresh_26 rfl (lv_at hl 0 rfl) ?_
          refine nr_if_ne (pc := 27) (tgt := 34) hx hb (by omega) d_X_refresh_27 (by decide) (fun c_27 => ?_) (fun c_27 => ?_)
          · refine nr_iconst (pc := 34) hx hb 0 rfl d_X_refresh_34 ?_
            refine X_callv (pc := 35) (rest := []) [.int (nI (0))] S (c_X_findEndings l dC dI cA a T Af' Fi' La' St' n rc' 1 0 hn hT (by omega)) k_X_X_findEndings e_X_findEndings rfl rfl ⟨Nat.le_of_ble_eq_true rfl, Nat.le_of_ble_eq_true rfl⟩ I rfl hl.1 rfl (Nat.le_of_ble_eq_true rfl) d_X_refresh_35 (fun u H locs hw I => ?_)
            obtain ⟨Af2, hA0, rfl⟩ := hw
            have hA : ∀ x, x < n → rf_ns T n (1 - sd) x (Af2 x) := by rw [show 1 - sd = 0 by omega]; exact hA0
            refine nr_iconst (pc := 38) hx hb 0 rfl d_X_refresh_38 ?_
            refine lv_istore_n (pc := 39) (lv' := [(2, .int (nI (0))), (1, .int (nI (sd))), (0, .ref (a 0))]) hx hb d_X_refresh_39 rfl hl (by decide) rfl (fun ls hl => ?_)
            have lp_40 : ∀ (fu : Nat) (i : Nat) (Fi' : Nat → Nat) (La' : Nat → Nat) (St' : Nat → Nat) (rc' : Nat), (i ≤ n) → (rf_lst T n rc' Fi' La' St') → (∀ x, x < sd → ∀ y, y < n → rf_fnd T n (1 - x) y rc' Fi' La' St') → (∀ y, y < i → rf_fnd T n (1 - sd) y rc' Fi' La' St') → n - i < fu → ∀ (H : Heap) (locs : List Loc), X_I dC dI cA a A zs zs.heap H locs (T, Af2, Fi', La', St', n, rc', 1) → ∀ ls : Array Slot, lv_has ls 3 [(2, .int (nI (i))), (1, .int (nI (sd))), (0, .ref (a 0))] → W zp l ze (rmL 3) zs zm za zb zt zc H locs 0 0 Q (F0 zm 40 ls []) := by
              intro fu
              induction fu with
              | zero =>
                intro i Fi' La' St' rc' hin hL hfd hfi hfu
                exact absurd hfu (Nat.not_lt_zero _)
              | succ fu ih_40 =>
                intro i Fi' La' St' rc' hin hL hfd hfi hfu H locs I ls hl
                refine lv_iload_n (pc := 40) hx hb d_X_refresh_40 rfl (lv_at hl 0 rfl) ?_
                refine lv_aload_n (pc := 41) hx hb d_X_refresh_41 rfl (lv_at hl 2 rfl) ?_
                refine X_get_length (pc := 42) S I d_X_refresh_42 ?_
                refine nr_icmp_ge (pc := 45) (tgt := 65) hx hb (by omega) (by omega) d_X_refresh_45 (by decide) (fun c_45 => ?_) (fun c_45 => ?_)
                · refine nr_iinc (pc := 65) (lv' := [(1, .int (nI (sd + 1))), (2, .int (nI (i))), (0, .ref (a 0))]) hx hb d_X_refresh_65 hl (d := 1) rfl (k := 1) rfl (by decide) rfl (fun ls hl => ?_)
                  refine lv_goto (pc := 68) (tgt := 20) hx hb d_X_refresh_68 (by decide) ?_
                  exact ih_20 (sd + 1) Af2 Fi' La' St' rc' (by omega) hL (lt_s hfd (fun y hy => hfi y (by omega))) (by omega) _ _ I ls (lv_sub hl [0, 2] rfl)
                · have hAi := hA i c_45
                  have hAi1 := hAi.2.1
                  refine lv_aload_n (pc := 48) hx hb d_X_refresh_48 rfl (lv_at hl 2 rfl) ?_
                  refine lv_iload_n (pc := 49) hx hb d_X_refresh_49 rfl (lv_at hl 0 rfl) ?_
                  refine lv_aload_n (pc := 50) hx hb d_X_refresh_50 rfl (lv_at hl 2 rfl) ?_
                  refine X_get_after (pc := 51) S I d_X_refresh_51 ?_
                  refine lv_iload_n (pc := 54) hx hb d_X_refresh_54 rfl (lv_at hl 0 rfl) ?_
                  refine X_ald2 (pc := 55) S I (by omega) d_X_refresh_55 ?_
                  refine X_callv (pc := 56) (rest := []) [.int (nI (i)), .int (nI (Af2 i))] S (c_X_widen l dC dI cA a T Af2 Fi' La' St' n rc' 1 i (Af2 i) (1 - sd) hn hT hL hAi) k_X_X_widen e_X_widen rfl rfl ⟨Nat.le_of_ble_eq_true rfl, Nat.le_of_ble_eq_true rfl⟩ I rfl hl.1 rfl (Nat.le_of_ble_eq_true rfl) d_X_refresh_56 (fun u H locs hw I => ?_)
                  obtain ⟨Fi2, La2, St2, rc2, hL2, hM2, hf2, rfl⟩ := hw
                  refine nr_iinc (pc := 59) (lv' := [(2, .int (nI (i + 1))), (1, .int (nI (sd))), (0, .ref (a 0))]) hx hb d_X_refresh_59 hl (d := 1) rfl (k := 0) rfl (by decide) rfl (fun ls hl => ?_)
                  refine lv_goto (pc := 62) (tgt := 40) hx hb d_X_refresh_62 (by decide) ?_
                  exact ih_40 (i + 1) Fi2 La2 St2 rc2 (by omega) hL2 (fun x h y hy => rf_fnd_mono (hfd x h y hy) hM2) (lt_s (fun y hy => rf_fnd_mono (hfi y hy) hM2) hf2) (by omega) _ _ I ls (lv_sub hl [0, 1, 2] rfl)
            exact lp_40 _ 0 Fi' La' St' rc' (by omega) hL hfd (fun y h => absurd h (Nat.not_lt_zero _)) (Nat.lt_succ_self _) _ _ I ls (lv_sub hl [0, 1, 2] rfl)
          · refine nr_iconst (pc := 30) hx hb 1 rfl d_X_refresh_30 ?_
            refine lv_goto (pc := 31) (tgt := 35) hx hb d_X_refresh_31 (by decide) ?_
            refine X_callv (pc := 35) (rest := []) [.int (nI (1))] S (c_X_findEndings l dC dI cA a T Af' Fi' La' St' n rc' 1 1 hn hT (by omega)) k_X_X_findEndings e_X_findEndings rfl rfl ⟨Nat.le_of_ble_eq_true rfl, Nat.le_of_ble_eq_true rfl⟩ I rfl hl.1 rfl (Nat.le_of_ble_eq_true rfl) d_X_refresh_35 (fun u H locs hw I => ?_)
            obtain ⟨Af2, hA0, rfl⟩ := hw
            have hA : ∀ x, x < n → rf_ns T n (1 - sd) x (Af2 x) := by rw [show 1 - sd = 1 by omega]; exact hA0
            refine nr_iconst (pc := 38) hx hb 0 rfl d_X_refresh_38 ?_
            refine lv_istore_n (pc := 39) (lv' := [(2, .int (nI (0))), (1, .int (nI (sd))), (0, .ref (a 0))]) hx hb d_X_refresh_39 rfl hl (by decide) rfl (fun ls hl => ?_)
            have lp_40 : ∀ (fu : Nat) (i : Nat) (Fi' : Nat → Nat) (La' : Nat → Nat) (St' : Nat → Nat) (rc' : Nat), (i ≤ n) → (rf_lst T n rc' Fi' La' St') → (∀ x, x < sd → ∀ y, y < n → rf_fnd T n (1 - x) y rc' Fi' La' St') → (∀ y, y < i → rf_fnd T n (1 - sd) y rc' Fi' La' St') → n - i < fu → ∀ (H : Heap) (locs : List Loc), X_I dC dI cA a A zs zs.heap H locs (T, Af2, Fi', La', St', n, rc', 1) → ∀ ls : Array Slot, lv_has ls 3 [(2, .int (nI (i))), (1, .int (nI (sd))), (0, .ref (a 0))] → W zp l ze (rmL 3) zs zm za zb zt zc H locs 0 0 Q (F0 zm 40 ls []) := by
              intro fu
              induction fu with
              | zero =>
                intro i Fi' La' St' rc' hin hL hfd hfi hfu
                exact absurd hfu (Nat.not_lt_zero _)
              | succ fu ih_40 =>
                intro i Fi' La' St' rc' hin hL hfd hfi hfu H locs I ls hl
                refine lv_iload_n (pc := 40) hx hb d_X_refresh_40 rfl (lv_at hl 0 rfl) ?_
                refine lv_aload_n (pc := 41) hx hb d_X_refresh_41 rfl (lv_at hl 2 rfl) ?_
                refine X_get_length (pc := 42) S I d_X_refresh_42 ?_
                refine nr_icmp_ge (pc := 45) (tgt := 65) hx hb (by omega) (by omega) d_X_refresh_45 (by decide) (fun c_45 => ?_) (fun c_45 => ?_)
                · refine nr_iinc (pc := 65) (lv' := [(1, .int (nI (sd + 1))), (2, .int (nI (i))), (0, .ref (a 0))]) hx hb d_X_refresh_65 hl (d := 1) rfl (k := 1) rfl (by decide) rfl (fun ls hl => ?_)
                  refine lv_goto (pc := 68) (tgt := 20) hx hb d_X_refresh_68 (by decide) ?_
                  exact ih_20 (sd + 1) Af2 Fi' La' St' rc' (by omega) hL (lt_s hfd (fun y hy => hfi y (by omega))) (by omega) _ _ I ls (lv_sub hl [0, 2] rfl)
                · have hAi := hA i c_45
                  have hAi1 := hAi.2.1
                  refine lv_aload_n (pc := 48) hx hb d_X_refresh_48 rfl (lv_at hl 2 rfl) ?_
                  refine lv_iload_n (pc := 49) hx hb d_X_refresh_49 rfl (lv_at hl 0 rfl) ?_
                  refine lv_aload_n (pc := 50) hx hb d_X_refresh_50 rfl (lv_at hl 2 rfl) ?_
                  refine X_get_after (pc := 51) S I d_X_refresh_51 ?_
                  refine lv_iload_n (pc := 54) hx hb d_X_refresh_54 rfl (lv_at hl 0 rfl) ?_
                  refine X_ald2 (pc := 55) S I (by omega) d_X_refresh_55 ?_
                  refine X_callv (pc := 56) (rest := []) [.int (nI (i)), .int (nI (Af2 i))] S (c_X_widen l dC dI cA a T Af2 Fi' La' St' n rc' 1 i (Af2 i) (1 - sd) hn hT hL hAi) k_X_X_widen e_X_widen rfl rfl ⟨Nat.le_of_ble_eq_true rfl, Nat.le_of_ble_eq_true rfl⟩ I rfl hl.1 rfl (Nat.le_of_ble_eq_true rfl) d_X_refresh_56 (fun u H locs hw I => ?_)
                  obtain ⟨Fi2, La2, St2, rc2, hL2, hM2, hf2, rfl⟩ := hw
                  refine nr_iinc (pc := 59) (lv' := [(2, .int (nI (i + 1))), (1, .int (nI (sd))), (0, .ref (a 0))]) hx hb d_X_refresh_59 hl (d := 1) rfl (k := 0) rfl (by decide) rfl (fun ls hl => ?_)
                  refine lv_goto (pc := 62) (tgt := 40) hx hb d_X_refresh_62 (by decide) ?_
                  exact ih_40 (i + 1) Fi2 La2 St2 rc2 (by omega) hL2 (fun x h y hy => rf_fnd_mono (hfd x h y hy) hM2) (lt_s (fun y hy => rf_fnd_mono (hfi y hy) hM2) hf2) (by omega) _ _ I ls (lv_sub hl [0, 1, 2] rfl)
            exact lp_40 _ 0 Fi' La' St' rc' (by omega) hL hfd (fun y h => absurd h (Nat.not_lt_zero _)) (Nat.lt_succ_self _) _ _ I ls (lv_sub hl [0, 1, 2] rfl)
    exact lp_20 _ 0 Af Fi La St 0 (by omega) rf_lst_0 (fun x h => absurd h (Nat.not_lt_zero _)) (Nat.lt_succ_self _) _ _ I ls (lv_sub hl [0, 1] rfl)
  · exact hret _ _ _ _ _ I d_X_refresh_7 ⟨Af, Fi, La, St, rc, (by rcases hcu with w | w; exact absurd w c_4; exact w.2), by rw [show cu = 1 by omega]⟩
end
section
set_option maxHeartbeats 4000000 in
set_option maxRecDepth 20000 in
theorem c_X_push (l : Launch) (dC : Nat → ClassId) (dI : Nat → Nat → Nat) (cA : ClassId) (a : Nat → Nat) (T Af Fi La St : Nat → Nat) (n rc cu : Nat) (p0 : Int32) (hn : n ≤ 48) (hT : ∀ i, T i ≤ 3) (hcu : cu = 0 ∨ (cu = 1 ∧ rf_all T n rc Fi La St)) : X_Mi l dC dI cA a y_X_push b_X_push 2 (some .int) (rmL 0) [.int (p0)] (T, Af, Fi, La, St, n, rc, cu) (fun r u => ∃ (T' : Nat → Nat) (n' : Nat), rf_aPush T n p0 r T' n' ∧ X_ok T' n' u) := by
  refine X_meti (by decide) rfl (Nat.le_of_ble_eq_true rfl) ?_
  intro zp ze zs zm za zb zt zc A Q S I hret ls hl
  have hl : lv_has ls 2 [(0, .ref (a 0)), (1, .int (p0))] := hl
  have hx := S.1
  have hb := S.2.1
  refine lv_iload_n (pc := 0) hx hb d_X_push_0 rfl (lv_at hl 1 rfl) ?_
  refine ri_if_lt (pc := 1) (tgt := 9) hx hb d_X_push_1 (by decide) (fun c_1 => ?_) (fun c_1 => ?_)
  · refine lv_iconst (pc := 9) (v := -1) hx hb d_X_push_9 (by decide) ?_
    exact hret _ _ _ _ _ _ I d_X_push_10 ⟨T, n, Or.inl ⟨by omega, rfl, rfl, rfl⟩, ⟨Af, Fi, La, St, rc, cu, rfl, hcu⟩⟩
  · refine lv_iload_n (pc := 4) hx hb d_X_push_4 rfl (lv_at hl 1 rfl) ?_
    refine nr_iconst (pc := 5) hx hb 3 rfl d_X_push_5 ?_
    refine ri_icmp_le (pc := 6) (tgt := 11) hx hb (by decide) d_X_push_6 (by decide) (fun c_6 => ?_) (fun c_6 => ?_)
    · obtain ⟨v, hv0, rfl⟩ := ri_nat (x := p0) c_1
      rw [ri_toI hv0] at c_6
      refine lv_aload_n (pc := 11) hx hb d_X_push_11 rfl (lv_at hl 0 rfl) ?_
      refine X_get_length (pc := 12) S I d_X_push_12 ?_
      refine nr_bipush (pc := 15) hx hb 48 (by decide) d_X_push_15 ?_
      refine nr_icmp_ne (pc := 17) (tgt := 23) hx hb (by omega) (by decide) d_X_push_17 (by decide) (fun c_17 => ?_) (fun c_17 => ?_)
      · refine lv_aload_n (pc := 23) hx hb d_X_push_23 rfl (lv_at hl 0 rfl) ?_
        refine X_get_text (pc := 24) S I d_X_push_24 ?_
        refine lv_aload_n (pc := 27) hx hb d_X_push_27 rfl (lv_at hl 0 rfl) ?_
        refine X_get_length (pc := 28) S I d_X_push_28 ?_
        refine lv_iload_n (pc := 31) hx hb d_X_push_31 rfl (lv_at hl 1 rfl) ?_
        refine X_ast1 (pc := 32) S I (by omega) d_X_push_32 (fun H locs I => ?_)
        refine lv_aload_n (pc := 33) hx hb d_X_push_33 rfl (lv_at hl 0 rfl) ?_
        refine lv_dup (pc := 34) hx hb d_X_push_34 rfl ?_
        refine X_get_length (pc := 35) S I d_X_push_35 ?_
        refine nr_iconst (pc := 38) hx hb 1 rfl d_X_push_38 ?_
        refine nr_iadd (pc := 39) hx hb d_X_push_39 ?_
        refine X_put_length (pc := 40) S I d_X_push_40 (fun H locs I => ?_)
        refine lv_aload_n (pc := 43) hx hb d_X_push_43 rfl (lv_at hl 0 rfl) ?_
        refine nr_iconst (pc := 44) hx hb 0 rfl d_X_push_44 ?_
        refine X_put_current (pc := 45) S I (by omega) d_X_push_45 (fun H locs I => ?_)
        refine lv_aload_n (pc := 48) hx hb d_X_push_48 rfl (lv_at hl 0 rfl) ?_
        refine X_get_length (pc := 49) S I d_X_push_49 ?_
        exact hret _ _ _ _ _ _ I d_X_push_52 ⟨_, _, Or.inr (Or.inr ⟨v, rfl, by omega, c_17, rfl, rfl, rfl⟩), ⟨Af, Fi, La, St, rc, 0, rfl, Or.inl rfl⟩⟩
      · refine lv_bipush (pc := 20) (v := -2) hx hb d_X_push_20 (by decide) ?_
        exact hret _ _ _ _ _ _ I d_X_push_22 ⟨T, n, Or.inr (Or.inl ⟨by rw [ri_toI hv0]; omega, c_17, rfl, rfl, rfl⟩), ⟨Af, Fi, La, St, rc, cu, rfl, hcu⟩⟩
    · refine lv_iconst (pc := 9) (v := -1) hx hb d_X_push_9 (by decide) ?_
      exact hret _ _ _ _ _ _ I d_X_push_10 ⟨T, n, Or.inl ⟨by omega, rfl, rfl, rfl⟩, ⟨Af, Fi, La, St, rc, cu, rfl, hcu⟩⟩
set_option maxHeartbeats 4000000 in
set_option maxRecDepth 20000 in
theorem c_X_pop (l : Launch) (dC : Nat → ClassId) (dI : Nat → Nat → Nat) (cA : ClassId) (a : Nat → Nat) (T Af Fi La St : Nat → Nat) (n rc cu : Nat) (p0 : Int32) (hn : n ≤ 48) (hT : ∀ i, T i ≤ 3) (hcu : cu = 0 ∨ (cu = 1 ∧ rf_all T n rc Fi La St)) : X_Mi l dC dI cA a y_X_pop b_X_pop 2 (some .int) (rmL 0) [.int (p0)] (T, Af, Fi, La, St, n, rc, cu) (fun r u => ∃ (T' : Nat → Nat) (n' : Nat), rf_aPop T n p0 r T' n' ∧ X_ok T' n' u) := by
  refine X_meti (by decide) rfl (Nat.le_of_ble_eq_true rfl) ?_
  intro zp ze zs zm za zb zt zc A Q S I hret ls hl
  have hl : lv_has ls 2 [(0, .ref (a 0)), (1, .int (p0))] := hl
  have hx := S.1
  have hb := S.2.1
  refine lv_iload_n (pc := 0) hx hb d_X_pop_0 rfl (lv_at hl 1 rfl) ?_
  refine ri_if_lt (pc := 1) (tgt := 12) hx hb d_X_pop_1 (by decide) (fun c_1 => ?_) (fun c_1 => ?_)
  · refine lv_iconst (pc := 12) (v := -1) hx hb d_X_pop_12 (by decide) ?_
    exact hret _ _ _ _ _ _ I d_X_pop_13 ⟨T, n, Or.inl ⟨by omega, rfl, rfl, rfl⟩, ⟨Af, Fi, La, St, rc, cu, rfl, hcu⟩⟩
  · refine lv_iload_n (pc := 4) hx hb d_X_pop_4 rfl (lv_at hl 1 rfl) ?_
    refine lv_aload_n (pc := 5) hx hb d_X_pop_5 rfl (lv_at hl 0 rfl) ?_
    refine X_get_length (pc := 6) S I d_X_pop_6 ?_
    refine ri_icmp_le (pc := 9) (tgt := 14) hx hb (by omega) d_X_pop_9 (by decide) (fun c_9 => ?_) (fun c_9 => ?_)
    · obtain ⟨v, hv0, rfl⟩ := ri_nat (x := p0) c_1
      rw [ri_toI hv0] at c_9
      refine lv_aload_n (pc := 14) hx hb d_X_pop_14 rfl (lv_at hl 0 rfl) ?_
      refine lv_dup (pc := 15) hx hb d_X_pop_15 rfl ?_
      refine X_get_length (pc := 16) S I d_X_pop_16 ?_
      refine lv_iload_n (pc := 19) hx hb d_X_pop_19 rfl (lv_at hl 1 rfl) ?_
      refine nr_isub (pc := 20) hx hb (by omega) d_X_pop_20 ?_
      refine X_put_length (pc := 21) S I d_X_pop_21 (fun H locs I => ?_)
      refine lv_aload_n (pc := 24) hx hb d_X_pop_24 rfl (lv_at hl 0 rfl) ?_
      refine nr_iconst (pc := 25) hx hb 0 rfl d_X_pop_25 ?_
      refine X_put_current (pc := 26) S I (by omega) d_X_pop_26 (fun H locs I => ?_)
      refine lv_aload_n (pc := 29) hx hb d_X_pop_29 rfl (lv_at hl 0 rfl) ?_
      refine X_get_length (pc := 30) S I d_X_pop_30 ?_
      exact hret _ _ _ _ _ _ I d_X_pop_33 ⟨_, _, Or.inr ⟨v, rfl, by omega, rfl, rfl, rfl⟩, ⟨Af, Fi, La, St, rc, 0, rfl, Or.inl rfl⟩⟩
    · refine lv_iconst (pc := 12) (v := -1) hx hb d_X_pop_12 (by decide) ?_
      exact hret _ _ _ _ _ _ I d_X_pop_13 ⟨T, n, Or.inl ⟨by omega, rfl, rfl, rfl⟩, ⟨Af, Fi, La, St, rc, cu, rfl, hcu⟩⟩
set_option maxHeartbeats 4000000 in
set_option maxRecDepth 20000 in
theorem c_X_repeat (l : Launch) (dC : Nat → ClassId) (dI : Nat → Nat → Nat) (cA : ClassId) (a : Nat → Nat) (T Af Fi La St : Nat → Nat) (n rc cu : Nat) (p0 p1 : Int32) (hn : n ≤ 48) (hT : ∀ i, T i ≤ 3) (hcu : cu = 0 ∨ (cu = 1 ∧ rf_all T n rc Fi La St)) : X_Mi l dC dI cA a y_X_repeat b_X_repeat 4 (some .int) (rmL 1) [.int (p0), .int (p1)] (T, Af, Fi, La, St, n, rc, cu) (fun r u => ∃ (T' : Nat → Nat) (n' : Nat), rf_aRep T n p0 p1 r T' n' ∧ X_ok T' n' u) := by
  refine X_meti (by decide) rfl (Nat.le_of_ble_eq_true rfl) ?_
  intro zp ze zs zm za zb zt zc A Q S I hret ls hl
  have hl : lv_has ls 4 [(0, .ref (a 0)), (1, .int (p0)), (2, .int (p1))] := hl
  have hx := S.1
  have hb := S.2.1
  refine lv_aload_n (pc := 0) hx hb d_X_repeat_0 rfl (lv_at hl 0 rfl) ?_
  refine lv_iload_n (pc := 1) hx hb d_X_repeat_1 rfl (lv_at hl 1 rfl) ?_
  refine X_calli (pc := 2) (rest := []) [.int (p0)] S (c_X_isPlace l dC dI cA a T Af Fi La St n rc cu p0 (by omega)) k_X_X_isPlace e_X_isPlace rfl rfl ⟨Nat.le_of_ble_eq_true rfl, Nat.le_of_ble_eq_true rfl⟩ I rfl hl.1 rfl (Nat.le_of_ble_eq_true rfl) d_X_repeat_2 (fun r u H locs hw I => ?_)
  obtain ⟨z, rfl, hz, ez, rfl⟩ := hw
  refine nr_if_ne (pc := 5) (tgt := 10) hx hb (by omega) d_X_repeat_5 (by decide) (fun c_5 => ?_) (fun c_5 => ?_)
  · have hpf := ez.mp c_5
    obtain ⟨f, hf0, rfl⟩ := ri_nat hpf.1
    have hf := hpf.2
    rw [ri_toI hf0] at hf
    refine lv_iload_n (pc := 10) hx hb d_X_repeat_10 rfl (lv_at hl 2 rfl) ?_
    refine nr_iconst (pc := 11) hx hb 1 rfl d_X_repeat_11 ?_
    refine ri_icmp_lt (pc := 12) (tgt := 21) hx hb (by decide) d_X_repeat_12 (by decide) (fun c_12 => ?_) (fun c_12 => ?_)
    · refine lv_bipush (pc := 21) (v := -2) hx hb d_X_repeat_21 (by decide) ?_
      exact hret _ _ _ _ _ _ I d_X_repeat_23 ⟨T, n, Or.inr (Or.inl ⟨(rf_pl_nI hf0).mpr (by omega), by omega, rfl, rfl, rfl⟩), ⟨Af, Fi, La, St, rc, cu, rfl, hcu⟩⟩
    · refine lv_iload_n (pc := 15) hx hb d_X_repeat_15 rfl (lv_at hl 2 rfl) ?_
      refine nr_bipush (pc := 16) hx hb 48 (by decide) d_X_repeat_16 ?_
      refine ri_icmp_le (pc := 18) (tgt := 24) hx hb (by decide) d_X_repeat_18 (by decide) (fun c_18 => ?_) (fun c_18 => ?_)
      · obtain ⟨v, hv0, rfl⟩ := ri_nat (x := p1) (show 0 ≤ p1.toInt by omega)
        rw [ri_toI hv0] at c_12
        rw [ri_toI hv0] at c_18
        refine lv_aload_n (pc := 24) hx hb d_X_repeat_24 rfl (lv_at hl 0 rfl) ?_
        refine X_get_length (pc := 25) S I d_X_repeat_25 ?_
        refine lv_iload_n (pc := 28) hx hb d_X_repeat_28 rfl (lv_at hl 2 rfl) ?_
        refine nr_iadd (pc := 29) hx hb d_X_repeat_29 ?_
        refine nr_bipush (pc := 30) hx hb 48 (by decide) d_X_repeat_30 ?_
        refine nr_icmp_le (pc := 32) (tgt := 38) hx hb (by omega) (by decide) d_X_repeat_32 (by decide) (fun c_32 => ?_) (fun c_32 => ?_)
        · refine nr_iconst (pc := 38) hx hb 0 rfl d_X_repeat_38 ?_
          refine lv_istore_n (pc := 39) (lv' := [(3, .int (nI (0))), (0, .ref (a 0)), (1, .int (nI (f))), (2, .int (nI (v)))]) hx hb d_X_repeat_39 rfl hl (by decide) rfl (fun ls hl => ?_)
          have lp_40 : ∀ (fu : Nat) (k : Nat), (k ≤ v) → v - k < fu → ∀ (H : Heap) (locs : List Loc), X_I dC dI cA a A zs zs.heap H locs (rf_cp T n f k, Af, Fi, La, St, n, rc, cu) → ∀ ls : Array Slot, lv_has ls 4 [(3, .int (nI (k))), (0, .ref (a 0)), (1, .int (nI (f))), (2, .int (nI (v)))] → W zp l ze (rmL 1) zs zm za zb zt zc H locs 0 0 Q (F0 zm 40 ls []) := by
            intro fu
            induction fu with
            | zero =>
              intro k hkv hfu
              exact absurd hfu (Nat.not_lt_zero _)
            | succ fu ih_40 =>
              intro k hkv hfu H locs I ls hl
              refine lv_iload_n (pc := 40) hx hb d_X_repeat_40 rfl (lv_at hl 0 rfl) ?_
              refine lv_iload_n (pc := 41) hx hb d_X_repeat_41 rfl (lv_at hl 3 rfl) ?_
              refine nr_icmp_ge (pc := 42) (tgt := 70) hx hb (by omega) (by omega) d_X_repeat_42 (by decide) (fun c_42 => ?_) (fun c_42 => ?_)
              · obtain rfl : v = k := by omega
                refine lv_aload_n (pc := 70) hx hb d_X_repeat_70 rfl (lv_at hl 1 rfl) ?_
                refine lv_dup (pc := 71) hx hb d_X_repeat_71 rfl ?_
                refine X_get_length (pc := 72) S I d_X_repeat_72 ?_
                refine lv_iload_n (pc := 75) hx hb d_X_repeat_75 rfl (lv_at hl 3 rfl) ?_
                refine nr_iadd (pc := 76) hx hb d_X_repeat_76 ?_
                refine X_put_length (pc := 77) S I d_X_repeat_77 (fun H locs I => ?_)
                refine lv_aload_n (pc := 80) hx hb d_X_repeat_80 rfl (lv_at hl 1 rfl) ?_
                refine nr_iconst (pc := 81) hx hb 0 rfl d_X_repeat_81 ?_
                refine X_put_current (pc := 82) S I (by omega) d_X_repeat_82 (fun H locs I => ?_)
                refine lv_aload_n (pc := 85) hx hb d_X_repeat_85 rfl (lv_at hl 1 rfl) ?_
                refine X_get_length (pc := 86) S I d_X_repeat_86 ?_
                exact hret _ _ _ _ _ _ I d_X_repeat_89 ⟨_, _, Or.inr (Or.inr (Or.inr ⟨f, v, rfl, by omega, rfl, by omega, by omega, rfl, rfl, rfl⟩)), ⟨Af, Fi, La, St, rc, 0, rfl, Or.inl rfl⟩⟩
              · refine lv_aload_n (pc := 45) hx hb d_X_repeat_45 rfl (lv_at hl 1 rfl) ?_
                refine X_get_text (pc := 46) S I d_X_repeat_46 ?_
                refine lv_aload_n (pc := 49) hx hb d_X_repeat_49 rfl (lv_at hl 1 rfl) ?_
                refine X_get_length (pc := 50) S I d_X_repeat_50 ?_
                refine lv_iload_n (pc := 53) hx hb d_X_repeat_53 rfl (lv_at hl 0 rfl) ?_
                refine nr_iadd (pc := 54) hx hb d_X_repeat_54 ?_
                refine lv_aload_n (pc := 55) hx hb d_X_repeat_55 rfl (lv_at hl 1 rfl) ?_
                refine X_get_text (pc := 56) S I d_X_repeat_56 ?_
                refine lv_iload_n (pc := 59) hx hb d_X_repeat_59 rfl (lv_at hl 2 rfl) ?_
                refine lv_iload_n (pc := 60) hx hb d_X_repeat_60 rfl (lv_at hl 0 rfl) ?_
                refine nr_iadd (pc := 61) hx hb d_X_repeat_61 ?_
                refine X_ald1 (pc := 62) S I (by omega) d_X_repeat_62 ?_
                refine X_ast1 (pc := 63) S I (by omega) d_X_repeat_63 (fun H locs I => ?_)
                refine nr_iinc (pc := 64) (lv' := [(3, .int (nI (k + 1))), (0, .ref (a 0)), (1, .int (nI (f))), (2, .int (nI (v)))]) hx hb d_X_repeat_64 hl (d := 1) rfl (k := 0) rfl (by decide) rfl (fun ls hl => ?_)
                refine lv_goto (pc := 67) (tgt := 40) hx hb d_X_repeat_67 (by decide) ?_
                exact ih_40 (k + 1) (by omega) (by omega) _ _ I ls (lv_sub hl [0, 1, 2, 3] rfl)
          exact lp_40 _ 0 (by omega) (Nat.lt_succ_self _) _ _ I ls (lv_sub hl [0, 1, 2, 3] rfl)
        · refine lv_bipush (pc := 35) (v := -3) hx hb d_X_repeat_35 (by decide) ?_
          exact hret _ _ _ _ _ _ I d_X_repeat_37 ⟨T, n, Or.inr (Or.inr (Or.inl ⟨(rf_pl_nI hf0).mpr (by omega), by rw [ri_toI hv0]; omega, by rw [ri_toI hv0]; omega, rfl, rfl, rfl⟩)), ⟨Af, Fi, La, St, rc, cu, rfl, hcu⟩⟩
      · refine lv_bipush (pc := 21) (v := -2) hx hb d_X_repeat_21 (by decide) ?_
        exact hret _ _ _ _ _ _ I d_X_repeat_23 ⟨T, n, Or.inr (Or.inl ⟨(rf_pl_nI hf0).mpr (by omega), by omega, rfl, rfl, rfl⟩), ⟨Af, Fi, La, St, rc, cu, rfl, hcu⟩⟩
  · refine lv_iconst (pc := 8) (v := -1) hx hb d_X_repeat_8 (by decide) ?_
    exact hret _ _ _ _ _ _ I d_X_repeat_9 ⟨T, n, Or.inl ⟨fun w => ez.mpr w c_5, rfl, rfl, rfl⟩, ⟨Af, Fi, La, St, rc, cu, rfl, hcu⟩⟩
set_option maxHeartbeats 4000000 in
set_option maxRecDepth 20000 in
theorem c_X_set (l : Launch) (dC : Nat → ClassId) (dI : Nat → Nat → Nat) (cA : ClassId) (a : Nat → Nat) (T Af Fi La St : Nat → Nat) (n rc cu : Nat) (p0 p1 : Int32) (hn : n ≤ 48) (hT : ∀ i, T i ≤ 3) (hcu : cu = 0 ∨ (cu = 1 ∧ rf_all T n rc Fi La St)) : X_Mi l dC dI cA a y_X_set b_X_set 4 (some .int) (rmL 1) [.int (p0), .int (p1)] (T, Af, Fi, La, St, n, rc, cu) (fun r u => ∃ (T' : Nat → Nat) (n' : Nat), rf_aSet T n p0 p1 r T' n' ∧ X_ok T' n' u) := by
  refine X_meti (by decide) rfl (Nat.le_of_ble_eq_true rfl) ?_
  intro zp ze zs zm za zb zt zc A Q S I hret ls hl
  have hl : lv_has ls 4 [(0, .ref (a 0)), (1, .int (p0)), (2, .int (p1))] := hl
  have hx := S.1
  have hb := S.2.1
  refine lv_aload_n (pc := 0) hx hb d_X_set_0 rfl (lv_at hl 0 rfl) ?_
  refine lv_iload_n (pc := 1) hx hb d_X_set_1 rfl (lv_at hl 1 rfl) ?_
  refine X_calli (pc := 2) (rest := []) [.int (p0)] S (c_X_isPlace l dC dI cA a T Af Fi La St n rc cu p0 (by omega)) k_X_X_isPlace e_X_isPlace rfl rfl ⟨Nat.le_of_ble_eq_true rfl, Nat.le_of_ble_eq_true rfl⟩ I rfl hl.1 rfl (Nat.le_of_ble_eq_true rfl) d_X_set_2 (fun r u H locs hw I => ?_)
  obtain ⟨z, rfl, hz, ez, rfl⟩ := hw
  refine nr_if_ne (pc := 5) (tgt := 10) hx hb (by omega) d_X_set_5 (by decide) (fun c_5 => ?_) (fun c_5 => ?_)
  · have hpf := ez.mp c_5
    obtain ⟨f, hf0, rfl⟩ := ri_nat hpf.1
    have hf := hpf.2
    rw [ri_toI hf0] at hf
    refine lv_iload_n (pc := 10) hx hb d_X_set_10 rfl (lv_at hl 2 rfl) ?_
    refine ri_if_lt (pc := 11) (tgt := 19) hx hb d_X_set_11 (by decide) (fun c_11 => ?_) (fun c_11 => ?_)
    · refine lv_bipush (pc := 19) (v := -2) hx hb d_X_set_19 (by decide) ?_
      exact hret _ _ _ _ _ _ I d_X_set_21 ⟨T, n, Or.inr (Or.inl ⟨(rf_pl_nI hf0).mpr (by omega), by omega, rfl, rfl, rfl⟩), ⟨Af, Fi, La, St, rc, cu, rfl, hcu⟩⟩
    · refine lv_iload_n (pc := 14) hx hb d_X_set_14 rfl (lv_at hl 2 rfl) ?_
      refine nr_iconst (pc := 15) hx hb 3 rfl d_X_set_15 ?_
      refine ri_icmp_le (pc := 16) (tgt := 22) hx hb (by decide) d_X_set_16 (by decide) (fun c_16 => ?_) (fun c_16 => ?_)
      · obtain ⟨v, hv0, rfl⟩ := ri_nat (x := p1) c_11
        rw [ri_toI hv0] at c_16
        refine lv_aload_n (pc := 22) hx hb d_X_set_22 rfl (lv_at hl 0 rfl) ?_
        refine X_get_text (pc := 23) S I d_X_set_23 ?_
        refine lv_iload_n (pc := 26) hx hb d_X_set_26 rfl (lv_at hl 1 rfl) ?_
        refine X_ald1 (pc := 27) S I (by omega) d_X_set_27 ?_
        refine lv_istore_n (pc := 28) (lv' := [(3, .int (nI (T f))), (0, .ref (a 0)), (1, .int (nI (f))), (2, .int (nI (v)))]) hx hb d_X_set_28 rfl hl (by decide) rfl (fun ls hl => ?_)
        refine lv_aload_n (pc := 29) hx hb d_X_set_29 rfl (lv_at hl 1 rfl) ?_
        refine X_get_text (pc := 30) S I d_X_set_30 ?_
        refine lv_iload_n (pc := 33) hx hb d_X_set_33 rfl (lv_at hl 2 rfl) ?_
        refine lv_iload_n (pc := 34) hx hb d_X_set_34 rfl (lv_at hl 3 rfl) ?_
        refine X_ast1 (pc := 35) S I (by omega) d_X_set_35 (fun H locs I => ?_)
        refine lv_aload_n (pc := 36) hx hb d_X_set_36 rfl (lv_at hl 1 rfl) ?_
        refine nr_iconst (pc := 37) hx hb 0 rfl d_X_set_37 ?_
        refine X_put_current (pc := 38) S I (by omega) d_X_set_38 (fun H locs I => ?_)
        refine lv_iload_n (pc := 41) hx hb d_X_set_41 rfl (lv_at hl 0 rfl) ?_
        exact hret _ _ _ _ _ _ I d_X_set_42 ⟨_, _, Or.inr (Or.inr ⟨f, v, rfl, by omega, rfl, by omega, rfl, rfl, rfl⟩), ⟨Af, Fi, La, St, rc, 0, rfl, Or.inl rfl⟩⟩
      · refine lv_bipush (pc := 19) (v := -2) hx hb d_X_set_19 (by decide) ?_
        exact hret _ _ _ _ _ _ I d_X_set_21 ⟨T, n, Or.inr (Or.inl ⟨(rf_pl_nI hf0).mpr (by omega), by omega, rfl, rfl, rfl⟩), ⟨Af, Fi, La, St, rc, cu, rfl, hcu⟩⟩
  · refine lv_iconst (pc := 8) (v := -1) hx hb d_X_set_8 (by decide) ?_
    exact hret _ _ _ _ _ _ I d_X_set_9 ⟨T, n, Or.inl ⟨fun w => ez.mpr w c_5, rfl, rfl, rfl⟩, ⟨Af, Fi, La, St, rc, cu, rfl, hcu⟩⟩
set_option maxHeartbeats 4000000 in
set_option maxRecDepth 20000 in
theorem c_X_reverse (l : Launch) (dC : Nat → ClassId) (dI : Nat → Nat → Nat) (cA : ClassId) (a : Nat → Nat) (T Af Fi La St : Nat → Nat) (n rc cu : Nat) (hn : n ≤ 48) (hT : ∀ i, T i ≤ 3) (hcu : cu = 0 ∨ (cu = 1 ∧ rf_all T n rc Fi La St)) : X_Mi l dC dI cA a y_X_reverse b_X_reverse 4 (some .int) (rmL 0) [] (T, Af, Fi, La, St, n, rc, cu) (fun r u => ∃ (T' : Nat → Nat) (n' : Nat), rf_aRev T n r T' n' ∧ X_ok T' n' u) := by
  refine X_meti (by decide) rfl (Nat.le_of_ble_eq_true rfl) ?_
  intro zp ze zs zm za zb zt zc A Q S I hret ls hl
  have hl : lv_has ls 4 [(0, .ref (a 0))] := hl
  have hx := S.1
  have hb := S.2.1
  refine nr_iconst (pc := 0) hx hb 0 rfl d_X_reverse_0 ?_
  refine lv_istore_n (pc := 1) (lv' := [(1, .int (nI (0))), (0, .ref (a 0))]) hx hb d_X_reverse_1 rfl hl (by decide) rfl (fun ls hl => ?_)
  have lp_2 : ∀ (fu : Nat) (k : Nat), (k ≤ n) → n - k < fu → ∀ (H : Heap) (locs : List Loc), X_I dC dI cA a A zs zs.heap H locs (rf_rv T n k, Af, Fi, La, St, n, rc, cu) → ∀ ls : Array Slot, lv_has ls 4 [(1, .int (nI (k))), (0, .ref (a 0))] → W zp l ze (rmL 0) zs zm za zb zt zc H locs 0 0 Q (F0 zm 2 ls []) := by
    intro fu
    induction fu with
    | zero =>
      intro k hk hfu
      exact absurd hfu (Nat.not_lt_zero _)
    | succ fu ih_2 =>
      intro k hk hfu H locs I ls hl
      refine nr_iconst (pc := 2) hx hb 2 rfl d_X_reverse_2 ?_
      refine lv_iload_n (pc := 3) hx hb d_X_reverse_3 rfl (lv_at hl 0 rfl) ?_
      refine nr_imul (pc := 4) hx hb d_X_reverse_4 ?_
      refine lv_aload_n (pc := 5) hx hb d_X_reverse_5 rfl (lv_at hl 1 rfl) ?_
      refine X_get_length (pc := 6) S I d_X_reverse_6 ?_
      refine nr_iconst (pc := 9) hx hb 1 rfl d_X_reverse_9 ?_
      refine lv_isub (pc := 10) hx hb d_X_reverse_10 ?_
      refine rj_icmp_ge (pc := 11) (tgt := 55) hx hb (by omega) d_X_reverse_11 (by decide) (fun c_11 => ?_) (fun c_11 => ?_)
      · rw [pk_sub_toInt (by omega) (by omega)] at c_11
        rw [rf_rv_end (by omega)] at I
        refine lv_aload_n (pc := 55) hx hb d_X_reverse_55 rfl (lv_at hl 1 rfl) ?_
        refine nr_iconst (pc := 56) hx hb 0 rfl d_X_reverse_56 ?_
        refine X_put_current (pc := 57) S I (by omega) d_X_reverse_57 (fun H locs I => ?_)
        refine lv_aload_n (pc := 60) hx hb d_X_reverse_60 rfl (lv_at hl 1 rfl) ?_
        refine X_get_length (pc := 61) S I d_X_reverse_61 ?_
        exact hret _ _ _ _ _ _ I d_X_reverse_64 ⟨_, _, ⟨rfl, rfl, rfl⟩, ⟨Af, Fi, La, St, rc, 0, rfl, Or.inl rfl⟩⟩
      · rw [pk_sub_toInt (by omega) (by omega)] at c_11
        refine lv_aload_n (pc := 14) hx hb d_X_reverse_14 rfl (lv_at hl 1 rfl) ?_
        refine X_get_length (pc := 15) S I d_X_reverse_15 ?_
        refine nr_iconst (pc := 18) hx hb 1 rfl d_X_reverse_18 ?_
        refine nr_isub (pc := 19) hx hb (by omega) d_X_reverse_19 ?_
        refine lv_iload_n (pc := 20) hx hb d_X_reverse_20 rfl (lv_at hl 0 rfl) ?_
        refine nr_isub (pc := 21) hx hb (by omega) d_X_reverse_21 ?_
        refine lv_istore_n (pc := 22) (lv' := [(2, .int (nI ((n - 1) - k))), (1, .int (nI (k))), (0, .ref (a 0))]) hx hb d_X_reverse_22 rfl hl (by decide) rfl (fun ls hl => ?_)
        refine lv_aload_n (pc := 23) hx hb d_X_reverse_23 rfl (lv_at hl 2 rfl) ?_
        refine X_get_text (pc := 24) S I d_X_reverse_24 ?_
        refine lv_iload_n (pc := 27) hx hb d_X_reverse_27 rfl (lv_at hl 1 rfl) ?_
        refine X_ald1 (pc := 28) S I (by omega) d_X_reverse_28 ?_
        refine lv_istore_n (pc := 29) (lv' := [(3, .int (nI ((rf_rv T n k) k))), (2, .int (nI ((n - 1) - k))), (1, .int (nI (k))), (0, .ref (a 0))]) hx hb d_X_reverse_29 rfl hl (by decide) rfl (fun ls hl => ?_)
        refine lv_aload_n (pc := 30) hx hb d_X_reverse_30 rfl (lv_at hl 3 rfl) ?_
        refine X_get_text (pc := 31) S I d_X_reverse_31 ?_
        refine lv_iload_n (pc := 34) hx hb d_X_reverse_34 rfl (lv_at hl 2 rfl) ?_
        refine lv_aload_n (pc := 35) hx hb d_X_reverse_35 rfl (lv_at hl 3 rfl) ?_
        refine X_get_text (pc := 36) S I d_X_reverse_36 ?_
        refine lv_iload_n (pc := 39) hx hb d_X_reverse_39 rfl (lv_at hl 1 rfl) ?_
        refine X_ald1 (pc := 40) S I (by omega) d_X_reverse_40 ?_
        refine X_ast1 (pc := 41) S I (by omega) d_X_reverse_41 (fun H locs I => ?_)
        refine lv_aload_n (pc := 42) hx hb d_X_reverse_42 rfl (lv_at hl 3 rfl) ?_
        refine X_get_text (pc := 43) S I d_X_reverse_43 ?_
        refine lv_iload_n (pc := 46) hx hb d_X_reverse_46 rfl (lv_at hl 1 rfl) ?_
        refine lv_iload_n (pc := 47) hx hb d_X_reverse_47 rfl (lv_at hl 0 rfl) ?_
        refine X_ast1 (pc := 48) S I (by omega) d_X_reverse_48 (fun H locs I => ?_)
        refine nr_iinc (pc := 49) (lv' := [(1, .int (nI (k + 1))), (3, .int (nI ((rf_rv T n k) k))), (2, .int (nI ((n - 1) - k))), (0, .ref (a 0))]) hx hb d_X_reverse_49 hl (d := 1) rfl (k := 2) rfl (by decide) rfl (fun ls hl => ?_)
        refine lv_goto (pc := 52) (tgt := 2) hx hb d_X_reverse_52 (by decide) ?_
        rw [rf_rv_s (by omega)] at I
        exact ih_2 (k + 1) (by omega) (by omega) _ _ I ls (lv_sub hl [0, 3] rfl)
  rw [← rf_rv_0 T n] at I
  exact lp_2 _ 0 (by omega) (Nat.lt_succ_self _) _ _ I ls (lv_sub hl [0, 1] rfl)
set_option maxHeartbeats 4000000 in
set_option maxRecDepth 20000 in
theorem c_X_length (l : Launch) (dC : Nat → ClassId) (dI : Nat → Nat → Nat) (cA : ClassId) (a : Nat → Nat) (T Af Fi La St : Nat → Nat) (n rc cu : Nat) (hn : n ≤ 48) (hT : ∀ i, T i ≤ 3) (hcu : cu = 0 ∨ (cu = 1 ∧ rf_all T n rc Fi La St)) : X_Mi l dC dI cA a y_X_length b_X_length 1 (some .int) (rmL 0) [] (T, Af, Fi, La, St, n, rc, cu) (fun r u => rf_aLen n r ∧ X_ok T n u) := by
  refine X_meti (by decide) rfl (Nat.le_of_ble_eq_true rfl) ?_
  intro zp ze zs zm za zb zt zc A Q S I hret ls hl
  have hl : lv_has ls 1 [(0, .ref (a 0))] := hl
  have hx := S.1
  have hb := S.2.1
  refine lv_aload_n (pc := 0) hx hb d_X_length_0 rfl (lv_at hl 0 rfl) ?_
  refine X_get_length (pc := 1) S I d_X_length_1 ?_
  exact hret _ _ _ _ _ _ I d_X_length_4 ⟨rfl, ⟨Af, Fi, La, St, rc, cu, rfl, hcu⟩⟩
set_option maxHeartbeats 4000000 in
set_option maxRecDepth 20000 in
theorem c_X_symbol (l : Launch) (dC : Nat → ClassId) (dI : Nat → Nat → Nat) (cA : ClassId) (a : Nat → Nat) (T Af Fi La St : Nat → Nat) (n rc cu : Nat) (p0 : Int32) (hn : n ≤ 48) (hT : ∀ i, T i ≤ 3) (hcu : cu = 0 ∨ (cu = 1 ∧ rf_all T n rc Fi La St)) : X_Mi l dC dI cA a y_X_symbol b_X_symbol 2 (some .int) (rmL 1) [.int (p0)] (T, Af, Fi, La, St, n, rc, cu) (fun r u => rf_aSym T n p0 r ∧ X_ok T n u) := by
  refine X_meti (by decide) rfl (Nat.le_of_ble_eq_true rfl) ?_
  intro zp ze zs zm za zb zt zc A Q S I hret ls hl
  have hl : lv_has ls 2 [(0, .ref (a 0)), (1, .int (p0))] := hl
  have hx := S.1
  have hb := S.2.1
  refine lv_aload_n (pc := 0) hx hb d_X_symbol_0 rfl (lv_at hl 0 rfl) ?_
  refine lv_iload_n (pc := 1) hx hb d_X_symbol_1 rfl (lv_at hl 1 rfl) ?_
  refine X_calli (pc := 2) (rest := []) [.int (p0)] S (c_X_isPlace l dC dI cA a T Af Fi La St n rc cu p0 (by omega)) k_X_X_isPlace e_X_isPlace rfl rfl ⟨Nat.le_of_ble_eq_true rfl, Nat.le_of_ble_eq_true rfl⟩ I rfl hl.1 rfl (Nat.le_of_ble_eq_true rfl) d_X_symbol_2 (fun r u H locs hw I => ?_)
  obtain ⟨z, rfl, hz, ez, rfl⟩ := hw
  refine nr_if_eq (pc := 5) (tgt := 17) hx hb (by omega) d_X_symbol_5 (by decide) (fun c_5 => ?_) (fun c_5 => ?_)
  · refine lv_iconst (pc := 17) (v := -1) hx hb d_X_symbol_17 (by decide) ?_
    exact hret _ _ _ _ _ _ I d_X_symbol_18 ⟨Or.inl ⟨fun w => ez.mpr w c_5, rfl⟩, ⟨Af, Fi, La, St, rc, cu, rfl, hcu⟩⟩
  · have hpj := ez.mp c_5
    obtain ⟨j, hj0, rfl⟩ := ri_nat hpj.1
    have hj := hpj.2
    rw [ri_toI hj0] at hj
    refine lv_aload_n (pc := 8) hx hb d_X_symbol_8 rfl (lv_at hl 0 rfl) ?_
    refine X_get_text (pc := 9) S I d_X_symbol_9 ?_
    refine lv_iload_n (pc := 12) hx hb d_X_symbol_12 rfl (lv_at hl 1 rfl) ?_
    refine X_ald1 (pc := 13) S I (by omega) d_X_symbol_13 ?_
    refine lv_goto (pc := 14) (tgt := 18) hx hb d_X_symbol_14 (by decide) ?_
    exact hret _ _ _ _ _ _ I d_X_symbol_18 ⟨Or.inr ⟨j, rfl, by omega, rfl⟩, ⟨Af, Fi, La, St, rc, cu, rfl, hcu⟩⟩
set_option maxHeartbeats 4000000 in
set_option maxRecDepth 20000 in
theorem c_X_runs (l : Launch) (dC : Nat → ClassId) (dI : Nat → Nat → Nat) (cA : ClassId) (a : Nat → Nat) (T Af Fi La St : Nat → Nat) (n rc cu : Nat) (hn : n ≤ 48) (hT : ∀ i, T i ≤ 3) (hcu : cu = 0 ∨ (cu = 1 ∧ rf_all T n rc Fi La St)) : X_Mi l dC dI cA a y_X_runs b_X_runs 1 (some .int) (rmL 4) [] (T, Af, Fi, La, St, n, rc, cu) (fun r u => rf_aRuns T n r ∧ X_ok T n u) := by
  refine X_meti (by decide) rfl (Nat.le_of_ble_eq_true rfl) ?_
  intro zp ze zs zm za zb zt zc A Q S I hret ls hl
  have hl : lv_has ls 1 [(0, .ref (a 0))] := hl
  have hx := S.1
  have hb := S.2.1
  refine lv_aload_n (pc := 0) hx hb d_X_runs_0 rfl (lv_at hl 0 rfl) ?_
  refine X_callv (pc := 1) (rest := []) [] S (c_X_refresh l dC dI cA a T Af Fi La St n rc cu hn hT hcu) k_X_X_refresh e_X_refresh rfl rfl ⟨Nat.le_of_ble_eq_true rfl, Nat.le_of_ble_eq_true rfl⟩ I rfl hl.1 rfl (Nat.le_of_ble_eq_true rfl) d_X_runs_1 (fun u H locs hw I => ?_)
  obtain ⟨Af', Fi', La', St', rc', hall, rfl⟩ := hw
  have hrc := rf_lst_le hall.1
  refine lv_aload_n (pc := 4) hx hb d_X_runs_4 rfl (lv_at hl 0 rfl) ?_
  refine X_get_runCount (pc := 5) S I d_X_runs_5 ?_
  exact hret _ _ _ _ _ _ I d_X_runs_8 ⟨⟨rc', Fi', La', St', hall, rfl⟩, ⟨Af', Fi', La', St', rc', 1, rfl, Or.inr ⟨rfl, hall⟩⟩⟩
set_option maxHeartbeats 4000000 in
set_option maxRecDepth 20000 in
theorem c_X_start (l : Launch) (dC : Nat → ClassId) (dI : Nat → Nat → Nat) (cA : ClassId) (a : Nat → Nat) (T Af Fi La St : Nat → Nat) (n rc cu : Nat) (p0 : Int32) (hn : n ≤ 48) (hT : ∀ i, T i ≤ 3) (hcu : cu = 0 ∨ (cu = 1 ∧ rf_all T n rc Fi La St)) : X_Mi l dC dI cA a y_X_start b_X_start 2 (some .int) (rmL 4) [.int (p0)] (T, Af, Fi, La, St, n, rc, cu) (fun r u => rf_aSta T n p0 r ∧ X_ok T n u) := by
  refine X_meti (by decide) rfl (Nat.le_of_ble_eq_true rfl) ?_
  intro zp ze zs zm za zb zt zc A Q S I hret ls hl
  have hl : lv_has ls 2 [(0, .ref (a 0)), (1, .int (p0))] := hl
  have hx := S.1
  have hb := S.2.1
  refine lv_aload_n (pc := 0) hx hb d_X_start_0 rfl (lv_at hl 0 rfl) ?_
  refine X_callv (pc := 1) (rest := []) [] S (c_X_refresh l dC dI cA a T Af Fi La St n rc cu hn hT hcu) k_X_X_refresh e_X_refresh rfl rfl ⟨Nat.le_of_ble_eq_true rfl, Nat.le_of_ble_eq_true rfl⟩ I rfl hl.1 rfl (Nat.le_of_ble_eq_true rfl) d_X_start_1 (fun u H locs hw I => ?_)
  obtain ⟨Af', Fi', La', St', rc', hall, rfl⟩ := hw
  have hrc := rf_lst_le hall.1
  refine lv_aload_n (pc := 4) hx hb d_X_start_4 rfl (lv_at hl 0 rfl) ?_
  refine lv_iload_n (pc := 5) hx hb d_X_start_5 rfl (lv_at hl 1 rfl) ?_
  refine X_calli (pc := 6) (rest := []) [.int (p0)] S (c_X_isRun l dC dI cA a T Af' Fi' La' St' n rc' 1 p0 (by omega)) k_X_X_isRun e_X_isRun rfl rfl ⟨Nat.le_of_ble_eq_true rfl, Nat.le_of_ble_eq_true rfl⟩ I rfl hl.1 rfl (Nat.le_of_ble_eq_true rfl) d_X_start_6 (fun r u H locs hw I => ?_)
  obtain ⟨z, rfl, hz, ez, rfl⟩ := hw
  refine nr_if_eq (pc := 9) (tgt := 21) hx hb (by omega) d_X_start_9 (by decide) (fun c_9 => ?_) (fun c_9 => ?_)
  · refine lv_iconst (pc := 21) (v := -1) hx hb d_X_start_21 (by decide) ?_
    exact hret _ _ _ _ _ _ I d_X_start_22 ⟨⟨rc', Fi', La', St', hall, Or.inl ⟨fun w => ez.mpr w c_9, rfl⟩⟩, ⟨Af', Fi', La', St', rc', 1, rfl, Or.inr ⟨rfl, hall⟩⟩⟩
  · have hpj := ez.mp c_9
    obtain ⟨j, hj0, rfl⟩ := ri_nat hpj.1
    have hj := hpj.2
    rw [ri_toI hj0] at hj
    refine lv_aload_n (pc := 12) hx hb d_X_start_12 rfl (lv_at hl 0 rfl) ?_
    refine X_get_first (pc := 13) S I d_X_start_13 ?_
    refine lv_iload_n (pc := 16) hx hb d_X_start_16 rfl (lv_at hl 1 rfl) ?_
    refine X_ald3 (pc := 17) S I (by omega) d_X_start_17 ?_
    refine lv_goto (pc := 18) (tgt := 22) hx hb d_X_start_18 (by decide) ?_
    exact hret _ _ _ _ _ _ I d_X_start_22 ⟨⟨rc', Fi', La', St', hall, Or.inr ⟨j, rfl, by omega, rfl⟩⟩, ⟨Af', Fi', La', St', rc', 1, rfl, Or.inr ⟨rfl, hall⟩⟩⟩
set_option maxHeartbeats 4000000 in
set_option maxRecDepth 20000 in
theorem c_X_end (l : Launch) (dC : Nat → ClassId) (dI : Nat → Nat → Nat) (cA : ClassId) (a : Nat → Nat) (T Af Fi La St : Nat → Nat) (n rc cu : Nat) (p0 : Int32) (hn : n ≤ 48) (hT : ∀ i, T i ≤ 3) (hcu : cu = 0 ∨ (cu = 1 ∧ rf_all T n rc Fi La St)) : X_Mi l dC dI cA a y_X_end b_X_end 2 (some .int) (rmL 4) [.int (p0)] (T, Af, Fi, La, St, n, rc, cu) (fun r u => rf_aEnd T n p0 r ∧ X_ok T n u) := by
  refine X_meti (by decide) rfl (Nat.le_of_ble_eq_true rfl) ?_
  intro zp ze zs zm za zb zt zc A Q S I hret ls hl
  have hl : lv_has ls 2 [(0, .ref (a 0)), (1, .int (p0))] := hl
  have hx := S.1
  have hb := S.2.1
  refine lv_aload_n (pc := 0) hx hb d_X_end_0 rfl (lv_at hl 0 rfl) ?_
  refine X_callv (pc := 1) (rest := []) [] S (c_X_refresh l dC dI cA a T Af Fi La St n rc cu hn hT hcu) k_X_X_refresh e_X_refresh rfl rfl ⟨Nat.le_of_ble_eq_true rfl, Nat.le_of_ble_eq_true rfl⟩ I rfl hl.1 rfl (Nat.le_of_ble_eq_true rfl) d_X_end_1 (fun u H locs hw I => ?_)
  obtain ⟨Af', Fi', La', St', rc', hall, rfl⟩ := hw
  have hrc := rf_lst_le hall.1
  refine lv_aload_n (pc := 4) hx hb d_X_end_4 rfl (lv_at hl 0 rfl) ?_
  refine lv_iload_n (pc := 5) hx hb d_X_end_5 rfl (lv_at hl 1 rfl) ?_
  refine X_calli (pc := 6) (rest := []) [.int (p0)] S (c_X_isRun l dC dI cA a T Af' Fi' La' St' n rc' 1 p0 (by omega)) k_X_X_isRun e_X_isRun rfl rfl ⟨Nat.le_of_ble_eq_true rfl, Nat.le_of_ble_eq_true rfl⟩ I rfl hl.1 rfl (Nat.le_of_ble_eq_true rfl) d_X_end_6 (fun r u H locs hw I => ?_)
  obtain ⟨z, rfl, hz, ez, rfl⟩ := hw
  refine nr_if_eq (pc := 9) (tgt := 21) hx hb (by omega) d_X_end_9 (by decide) (fun c_9 => ?_) (fun c_9 => ?_)
  · refine lv_iconst (pc := 21) (v := -1) hx hb d_X_end_21 (by decide) ?_
    exact hret _ _ _ _ _ _ I d_X_end_22 ⟨⟨rc', Fi', La', St', hall, Or.inl ⟨fun w => ez.mpr w c_9, rfl⟩⟩, ⟨Af', Fi', La', St', rc', 1, rfl, Or.inr ⟨rfl, hall⟩⟩⟩
  · have hpj := ez.mp c_9
    obtain ⟨j, hj0, rfl⟩ := ri_nat hpj.1
    have hj := hpj.2
    rw [ri_toI hj0] at hj
    refine lv_aload_n (pc := 12) hx hb d_X_end_12 rfl (lv_at hl 0 rfl) ?_
    refine X_get_last (pc := 13) S I d_X_end_13 ?_
    refine lv_iload_n (pc := 16) hx hb d_X_end_16 rfl (lv_at hl 1 rfl) ?_
    refine X_ald4 (pc := 17) S I (by omega) d_X_end_17 ?_
    refine lv_goto (pc := 18) (tgt := 22) hx hb d_X_end_18 (by decide) ?_
    exact hret _ _ _ _ _ _ I d_X_end_22 ⟨⟨rc', Fi', La', St', hall, Or.inr ⟨j, rfl, by omega, rfl⟩⟩, ⟨Af', Fi', La', St', rc', 1, rfl, Or.inr ⟨rfl, hall⟩⟩⟩
set_option maxHeartbeats 4000000 in
set_option maxRecDepth 20000 in
theorem c_X_period (l : Launch) (dC : Nat → ClassId) (dI : Nat → Nat → Nat) (cA : ClassId) (a : Nat → Nat) (T Af Fi La St : Nat → Nat) (n rc cu : Nat) (p0 : Int32) (hn : n ≤ 48) (hT : ∀ i, T i ≤ 3) (hcu : cu = 0 ∨ (cu = 1 ∧ rf_all T n rc Fi La St)) : X_Mi l dC dI cA a y_X_period b_X_period 2 (some .int) (rmL 4) [.int (p0)] (T, Af, Fi, La, St, n, rc, cu) (fun r u => rf_aPer T n p0 r ∧ X_ok T n u) := by
  refine X_meti (by decide) rfl (Nat.le_of_ble_eq_true rfl) ?_
  intro zp ze zs zm za zb zt zc A Q S I hret ls hl
  have hl : lv_has ls 2 [(0, .ref (a 0)), (1, .int (p0))] := hl
  have hx := S.1
  have hb := S.2.1
  refine lv_aload_n (pc := 0) hx hb d_X_period_0 rfl (lv_at hl 0 rfl) ?_
  refine X_callv (pc := 1) (rest := []) [] S (c_X_refresh l dC dI cA a T Af Fi La St n rc cu hn hT hcu) k_X_X_refresh e_X_refresh rfl rfl ⟨Nat.le_of_ble_eq_true rfl, Nat.le_of_ble_eq_true rfl⟩ I rfl hl.1 rfl (Nat.le_of_ble_eq_true rfl) d_X_period_1 (fun u H locs hw I => ?_)
  obtain ⟨Af', Fi', La', St', rc', hall, rfl⟩ := hw
  have hrc := rf_lst_le hall.1
  refine lv_aload_n (pc := 4) hx hb d_X_period_4 rfl (lv_at hl 0 rfl) ?_
  refine lv_iload_n (pc := 5) hx hb d_X_period_5 rfl (lv_at hl 1 rfl) ?_
  refine X_calli (pc := 6) (rest := []) [.int (p0)] S (c_X_isRun l dC dI cA a T Af' Fi' La' St' n rc' 1 p0 (by omega)) k_X_X_isRun e_X_isRun rfl rfl ⟨Nat.le_of_ble_eq_true rfl, Nat.le_of_ble_eq_true rfl⟩ I rfl hl.1 rfl (Nat.le_of_ble_eq_true rfl) d_X_period_6 (fun r u H locs hw I => ?_)
  obtain ⟨z, rfl, hz, ez, rfl⟩ := hw
  refine nr_if_eq (pc := 9) (tgt := 21) hx hb (by omega) d_X_period_9 (by decide) (fun c_9 => ?_) (fun c_9 => ?_)
  · refine lv_iconst (pc := 21) (v := -1) hx hb d_X_period_21 (by decide) ?_
    exact hret _ _ _ _ _ _ I d_X_period_22 ⟨⟨rc', Fi', La', St', hall, Or.inl ⟨fun w => ez.mpr w c_9, rfl⟩⟩, ⟨Af', Fi', La', St', rc', 1, rfl, Or.inr ⟨rfl, hall⟩⟩⟩
  · have hpj := ez.mp c_9
    obtain ⟨j, hj0, rfl⟩ := ri_nat hpj.1
    have hj := hpj.2
    rw [ri_toI hj0] at hj
    refine lv_aload_n (pc := 12) hx hb d_X_period_12 rfl (lv_at hl 0 rfl) ?_
    refine X_get_step (pc := 13) S I d_X_period_13 ?_
    refine lv_iload_n (pc := 16) hx hb d_X_period_16 rfl (lv_at hl 1 rfl) ?_
    refine X_ald5 (pc := 17) S I (by omega) d_X_period_17 ?_
    refine lv_goto (pc := 18) (tgt := 22) hx hb d_X_period_18 (by decide) ?_
    exact hret _ _ _ _ _ _ I d_X_period_22 ⟨⟨rc', Fi', La', St', hall, Or.inr ⟨j, rfl, by omega, rfl⟩⟩, ⟨Af', Fi', La', St', rc', 1, rfl, Or.inr ⟨rfl, hall⟩⟩⟩
set_option maxHeartbeats 4000000 in
set_option maxRecDepth 20000 in
theorem c_X_runsAt (l : Launch) (dC : Nat → ClassId) (dI : Nat → Nat → Nat) (cA : ClassId) (a : Nat → Nat) (T Af Fi La St : Nat → Nat) (n rc cu : Nat) (p0 : Int32) (hn : n ≤ 48) (hT : ∀ i, T i ≤ 3) (hcu : cu = 0 ∨ (cu = 1 ∧ rf_all T n rc Fi La St)) : X_Mi l dC dI cA a y_X_runsAt b_X_runsAt 4 (some .int) (rmL 4) [.int (p0)] (T, Af, Fi, La, St, n, rc, cu) (fun r u => rf_aRAt T n p0 r ∧ X_ok T n u) := by
  refine X_meti (by decide) rfl (Nat.le_of_ble_eq_true rfl) ?_
  intro zp ze zs zm za zb zt zc A Q S I hret ls hl
  have hl : lv_has ls 4 [(0, .ref (a 0)), (1, .int (p0))] := hl
  have hx := S.1
  have hb := S.2.1
  refine lv_aload_n (pc := 0) hx hb d_X_runsAt_0 rfl (lv_at hl 0 rfl) ?_
  refine lv_iload_n (pc := 1) hx hb d_X_runsAt_1 rfl (lv_at hl 1 rfl) ?_
  refine X_calli (pc := 2) (rest := []) [.int (p0)] S (c_X_isPlace l dC dI cA a T Af Fi La St n rc cu p0 (by omega)) k_X_X_isPlace e_X_isPlace rfl rfl ⟨Nat.le_of_ble_eq_true rfl, Nat.le_of_ble_eq_true rfl⟩ I rfl hl.1 rfl (Nat.le_of_ble_eq_true rfl) d_X_runsAt_2 (fun r u H locs hw I => ?_)
  obtain ⟨z, rfl, hz, ez, rfl⟩ := hw
  refine nr_if_ne (pc := 5) (tgt := 10) hx hb (by omega) d_X_runsAt_5 (by decide) (fun c_5 => ?_) (fun c_5 => ?_)
  · have hpf := ez.mp c_5
    obtain ⟨f, hf0, rfl⟩ := ri_nat hpf.1
    have hf := hpf.2
    rw [ri_toI hf0] at hf
    refine lv_aload_n (pc := 10) hx hb d_X_runsAt_10 rfl (lv_at hl 0 rfl) ?_
    refine X_callv (pc := 11) (rest := []) [] S (c_X_refresh l dC dI cA a T Af Fi La St n rc cu hn hT hcu) k_X_X_refresh e_X_refresh rfl rfl ⟨Nat.le_of_ble_eq_true rfl, Nat.le_of_ble_eq_true rfl⟩ I rfl hl.1 rfl (Nat.le_of_ble_eq_true rfl) d_X_runsAt_11 (fun u H locs hw I => ?_)
    obtain ⟨Af', Fi', La', St', rc', hall, rfl⟩ := hw
    have hrc := rf_lst_le hall.1
    refine nr_iconst (pc := 14) hx hb 0 rfl d_X_runsAt_14 ?_
    refine lv_istore_n (pc := 15) (lv' := [(2, .int (nI (0))), (0, .ref (a 0)), (1, .int (nI (f)))]) hx hb d_X_runsAt_15 rfl hl (by decide) rfl (fun ls hl => ?_)
    refine nr_iconst (pc := 16) hx hb 0 rfl d_X_runsAt_16 ?_
    refine lv_istore_n (pc := 17) (lv' := [(3, .int (nI (0))), (2, .int (nI (0))), (0, .ref (a 0)), (1, .int (nI (f)))]) hx hb d_X_runsAt_17 rfl hl (by decide) rfl (fun ls hl => ?_)
    have lp_18 : ∀ (fu : Nat) (sm : Nat) (x : Nat), (x ≤ rc') → (sm = rf_sum (fun x => rf_ind (Fi' x ≤ f ∧ f ≤ La' x)) x) → rc' - x < fu → ∀ (H : Heap) (locs : List Loc), X_I dC dI cA a A zs zs.heap H locs (T, Af', Fi', La', St', n, rc', 1) → ∀ ls : Array Slot, lv_has ls 4 [(3, .int (nI (x))), (2, .int (nI (sm))), (0, .ref (a 0)), (1, .int (nI (f)))] → W zp l ze (rmL 4) zs zm za zb zt zc H locs 0 0 Q (F0 zm 18 ls []) := by
      intro fu
      induction fu with
      | zero =>
        intro sm x hxr hs hfu
        exact absurd hfu (Nat.not_lt_zero _)
      | succ fu ih_18 =>
        intro sm x hxr hs hfu H locs I ls hl
        refine lv_iload_n (pc := 18) hx hb d_X_runsAt_18 rfl (lv_at hl 0 rfl) ?_
        refine lv_aload_n (pc := 19) hx hb d_X_runsAt_19 rfl (lv_at hl 2 rfl) ?_
        refine X_get_runCount (pc := 20) S I d_X_runsAt_20 ?_
        refine nr_icmp_ge (pc := 23) (tgt := 55) hx hb (by omega) (by omega) d_X_runsAt_23 (by decide) (fun c_23 => ?_) (fun c_23 => ?_)
        · refine lv_iload_n (pc := 55) hx hb d_X_runsAt_55 rfl (lv_at hl 1 rfl) ?_
          exact hret _ _ _ _ _ _ I d_X_runsAt_56 ⟨Or.inr ⟨f, rfl, by omega, rc', Fi', La', St', hall, by rw [hs, show x = rc' by omega]⟩, ⟨Af', Fi', La', St', rc', 1, rfl, Or.inr ⟨rfl, hall⟩⟩⟩
        · obtain ⟨hR0, hR1, hR2⟩ := rf_run_b (hall.1.1 x c_23)
          refine lv_aload_n (pc := 26) hx hb d_X_runsAt_26 rfl (lv_at hl 2 rfl) ?_
          refine X_get_first (pc := 27) S I d_X_runsAt_27 ?_
          refine lv_iload_n (pc := 30) hx hb d_X_runsAt_30 rfl (lv_at hl 0 rfl) ?_
          refine X_ald3 (pc := 31) S I (by omega) d_X_runsAt_31 ?_
          refine lv_iload_n (pc := 32) hx hb d_X_runsAt_32 rfl (lv_at hl 3 rfl) ?_
          refine nr_icmp_gt (pc := 33) (tgt := 49) hx hb (by omega) (by omega) d_X_runsAt_33 (by decide) (fun c_33 => ?_) (fun c_33 => ?_)
          · refine nr_iinc (pc := 49) (lv' := [(3, .int (nI (x + 1))), (2, .int (nI (sm))), (0, .ref (a 0)), (1, .int (nI (f)))]) hx hb d_X_runsAt_49 hl (d := 1) rfl (k := 0) rfl (by decide) rfl (fun ls hl => ?_)
            refine lv_goto (pc := 52) (tgt := 18) hx hb d_X_runsAt_52 (by decide) ?_
            exact ih_18 sm (x + 1) (by omega) (rf_cnt_f hs (by omega)) (by omega) _ _ I ls (lv_sub hl [0, 1, 2, 3] rfl)
          · refine lv_iload_n (pc := 36) hx hb d_X_runsAt_36 rfl (lv_at hl 3 rfl) ?_
            refine lv_aload_n (pc := 37) hx hb d_X_runsAt_37 rfl (lv_at hl 2 rfl) ?_
            refine X_get_last (pc := 38) S I d_X_runsAt_38 ?_
            refine lv_iload_n (pc := 41) hx hb d_X_runsAt_41 rfl (lv_at hl 0 rfl) ?_
            refine X_ald4 (pc := 42) S I (by omega) d_X_runsAt_42 ?_
            refine nr_icmp_gt (pc := 43) (tgt := 49) hx hb (by omega) (by omega) d_X_runsAt_43 (by decide) (fun c_43 => ?_) (fun c_43 => ?_)
            · refine nr_iinc (pc := 49) (lv' := [(3, .int (nI (x + 1))), (2, .int (nI (sm))), (0, .ref (a 0)), (1, .int (nI (f)))]) hx hb d_X_runsAt_49 hl (d := 1) rfl (k := 0) rfl (by decide) rfl (fun ls hl => ?_)
              refine lv_goto (pc := 52) (tgt := 18) hx hb d_X_runsAt_52 (by decide) ?_
              exact ih_18 sm (x + 1) (by omega) (rf_cnt_f hs (by omega)) (by omega) _ _ I ls (lv_sub hl [0, 1, 2, 3] rfl)
            · refine nr_iinc (pc := 46) (lv' := [(2, .int (nI (sm + 1))), (3, .int (nI (x))), (0, .ref (a 0)), (1, .int (nI (f)))]) hx hb d_X_runsAt_46 hl (d := 1) rfl (k := 1) rfl (by decide) rfl (fun ls hl => ?_)
              refine nr_iinc (pc := 49) (lv' := [(3, .int (nI (x + 1))), (2, .int (nI (sm + 1))), (0, .ref (a 0)), (1, .int (nI (f)))]) hx hb d_X_runsAt_49 hl (d := 1) rfl (k := 1) rfl (by decide) rfl (fun ls hl => ?_)
              refine lv_goto (pc := 52) (tgt := 18) hx hb d_X_runsAt_52 (by decide) ?_
              exact ih_18 (sm + 1) (x + 1) (by omega) (rf_cnt_t hs (by omega)) (by omega) _ _ I ls (lv_sub hl [0, 1, 2, 3] rfl)
    exact lp_18 _ 0 0 (by omega) rfl (Nat.lt_succ_self _) _ _ I ls (lv_sub hl [0, 1, 2, 3] rfl)
  · refine lv_iconst (pc := 8) (v := -1) hx hb d_X_runsAt_8 (by decide) ?_
    exact hret _ _ _ _ _ _ I d_X_runsAt_9 ⟨Or.inl ⟨fun w => ez.mpr w c_5, rfl⟩, ⟨Af, Fi, La, St, rc, cu, rfl, hcu⟩⟩
set_option maxHeartbeats 4000000 in
set_option maxRecDepth 20000 in
theorem c_X_squaresFrom (l : Launch) (dC : Nat → ClassId) (dI : Nat → Nat → Nat) (cA : ClassId) (a : Nat → Nat) (T Af Fi La St : Nat → Nat) (n rc cu : Nat) (p0 : Int32) (hn : n ≤ 48) (hT : ∀ i, T i ≤ 3) (hcu : cu = 0 ∨ (cu = 1 ∧ rf_all T n rc Fi La St)) : X_Mi l dC dI cA a y_X_squaresFrom b_X_squaresFrom 4 (some .int) (rmL 4) [.int (p0)] (T, Af, Fi, La, St, n, rc, cu) (fun r u => rf_aSqF T n p0 r ∧ X_ok T n u) := by
  refine X_meti (by decide) rfl (Nat.le_of_ble_eq_true rfl) ?_
  intro zp ze zs zm za zb zt zc A Q S I hret ls hl
  have hl : lv_has ls 4 [(0, .ref (a 0)), (1, .int (p0))] := hl
  have hx := S.1
  have hb := S.2.1
  refine lv_aload_n (pc := 0) hx hb d_X_squaresFrom_0 rfl (lv_at hl 0 rfl) ?_
  refine lv_iload_n (pc := 1) hx hb d_X_squaresFrom_1 rfl (lv_at hl 1 rfl) ?_
  refine X_calli (pc := 2) (rest := []) [.int (p0)] S (c_X_isPlace l dC dI cA a T Af Fi La St n rc cu p0 (by omega)) k_X_X_isPlace e_X_isPlace rfl rfl ⟨Nat.le_of_ble_eq_true rfl, Nat.le_of_ble_eq_true rfl⟩ I rfl hl.1 rfl (Nat.le_of_ble_eq_true rfl) d_X_squaresFrom_2 (fun r u H locs hw I => ?_)
  obtain ⟨z, rfl, hz, ez, rfl⟩ := hw
  refine nr_if_ne (pc := 5) (tgt := 10) hx hb (by omega) d_X_squaresFrom_5 (by decide) (fun c_5 => ?_) (fun c_5 => ?_)
  · have hpf := ez.mp c_5
    obtain ⟨f, hf0, rfl⟩ := ri_nat hpf.1
    have hf := hpf.2
    rw [ri_toI hf0] at hf
    refine lv_aload_n (pc := 10) hx hb d_X_squaresFrom_10 rfl (lv_at hl 0 rfl) ?_
    refine X_callv (pc := 11) (rest := []) [] S (c_X_refresh l dC dI cA a T Af Fi La St n rc cu hn hT hcu) k_X_X_refresh e_X_refresh rfl rfl ⟨Nat.le_of_ble_eq_true rfl, Nat.le_of_ble_eq_true rfl⟩ I rfl hl.1 rfl (Nat.le_of_ble_eq_true rfl) d_X_squaresFrom_11 (fun u H locs hw I => ?_)
    obtain ⟨Af', Fi', La', St', rc', hall, rfl⟩ := hw
    have hrc := rf_lst_le hall.1
    refine nr_iconst (pc := 14) hx hb 0 rfl d_X_squaresFrom_14 ?_
    refine lv_istore_n (pc := 15) (lv' := [(2, .int (nI (0))), (0, .ref (a 0)), (1, .int (nI (f)))]) hx hb d_X_squaresFrom_15 rfl hl (by decide) rfl (fun ls hl => ?_)
    refine nr_iconst (pc := 16) hx hb 0 rfl d_X_squaresFrom_16 ?_
    refine lv_istore_n (pc := 17) (lv' := [(3, .int (nI (0))), (2, .int (nI (0))), (0, .ref (a 0)), (1, .int (nI (f)))]) hx hb d_X_squaresFrom_17 rfl hl (by decide) rfl (fun ls hl => ?_)
    have lp_18 : ∀ (fu : Nat) (sm : Nat) (x : Nat), (x ≤ rc') → (sm = rf_sum (fun x => rf_ind (Fi' x ≤ f ∧ f + 2 * St' x ≤ La' x + 1)) x) → rc' - x < fu → ∀ (H : Heap) (locs : List Loc), X_I dC dI cA a A zs zs.heap H locs (T, Af', Fi', La', St', n, rc', 1) → ∀ ls : Array Slot, lv_has ls 4 [(3, .int (nI (x))), (2, .int (nI (sm))), (0, .ref (a 0)), (1, .int (nI (f)))] → W zp l ze (rmL 4) zs zm za zb zt zc H locs 0 0 Q (F0 zm 18 ls []) := by
      intro fu
      induction fu with
      | zero =>
        intro sm x hxr hs hfu
        exact absurd hfu (Nat.not_lt_zero _)
      | succ fu ih_18 =>
        intro sm x hxr hs hfu H locs I ls hl
        refine lv_iload_n (pc := 18) hx hb d_X_squaresFrom_18 rfl (lv_at hl 0 rfl) ?_
        refine lv_aload_n (pc := 19) hx hb d_X_squaresFrom_19 rfl (lv_at hl 2 rfl) ?_
        refine X_get_runCount (pc := 20) S I d_X_squaresFrom_20 ?_
        refine nr_icmp_ge (pc := 23) (tgt := 66) hx hb (by omega) (by omega) d_X_squaresFrom_23 (by decide) (fun c_23 => ?_) (fun c_23 => ?_)
        · refine lv_iload_n (pc := 66) hx hb d_X_squaresFrom_66 rfl (lv_at hl 1 rfl) ?_
          exact hret _ _ _ _ _ _ I d_X_squaresFrom_67 ⟨Or.inr ⟨f, rfl, by omega, by rw [← rf_sqFrom hall, hs, show x = rc' by omega]⟩, ⟨Af', Fi', La', St', rc', 1, rfl, Or.inr ⟨rfl, hall⟩⟩⟩
        · obtain ⟨hR0, hR1, hR2⟩ := rf_run_b (hall.1.1 x c_23)
          refine lv_aload_n (pc := 26) hx hb d_X_squaresFrom_26 rfl (lv_at hl 2 rfl) ?_
          refine X_get_first (pc := 27) S I d_X_squaresFrom_27 ?_
          refine lv_iload_n (pc := 30) hx hb d_X_squaresFrom_30 rfl (lv_at hl 0 rfl) ?_
          refine X_ald3 (pc := 31) S I (by omega) d_X_squaresFrom_31 ?_
          refine lv_iload_n (pc := 32) hx hb d_X_squaresFrom_32 rfl (lv_at hl 3 rfl) ?_
          refine nr_icmp_gt (pc := 33) (tgt := 60) hx hb (by omega) (by omega) d_X_squaresFrom_33 (by decide) (fun c_33 => ?_) (fun c_33 => ?_)
          · refine nr_iinc (pc := 60) (lv' := [(3, .int (nI (x + 1))), (2, .int (nI (sm))), (0, .ref (a 0)), (1, .int (nI (f)))]) hx hb d_X_squaresFrom_60 hl (d := 1) rfl (k := 0) rfl (by decide) rfl (fun ls hl => ?_)
            refine lv_goto (pc := 63) (tgt := 18) hx hb d_X_squaresFrom_63 (by decide) ?_
            exact ih_18 sm (x + 1) (by omega) (rf_cnt_f hs (by omega)) (by omega) _ _ I ls (lv_sub hl [0, 1, 2, 3] rfl)
          · refine lv_iload_n (pc := 36) hx hb d_X_squaresFrom_36 rfl (lv_at hl 3 rfl) ?_
            refine nr_iconst (pc := 37) hx hb 2 rfl d_X_squaresFrom_37 ?_
            refine lv_aload_n (pc := 38) hx hb d_X_squaresFrom_38 rfl (lv_at hl 2 rfl) ?_
            refine X_get_step (pc := 39) S I d_X_squaresFrom_39 ?_
            refine lv_iload_n (pc := 42) hx hb d_X_squaresFrom_42 rfl (lv_at hl 0 rfl) ?_
            refine X_ald5 (pc := 43) S I (by omega) d_X_squaresFrom_43 ?_
            refine nr_imul (pc := 44) hx hb d_X_squaresFrom_44 ?_
            refine nr_iadd (pc := 45) hx hb d_X_squaresFrom_45 ?_
            refine nr_iconst (pc := 46) hx hb 1 rfl d_X_squaresFrom_46 ?_
            refine nr_isub (pc := 47) hx hb (by omega) d_X_squaresFrom_47 ?_
            refine lv_aload_n (pc := 48) hx hb d_X_squaresFrom_48 rfl (lv_at hl 2 rfl) ?_
            refine X_get_last (pc := 49) S I d_X_squaresFrom_49 ?_
            refine lv_iload_n (pc := 52) hx hb d_X_squaresFrom_52 rfl (lv_at hl 0 rfl) ?_
            refine X_ald4 (pc := 53) S I (by omega) d_X_squaresFrom_53 ?_
            refine nr_icmp_gt (pc := 54) (tgt := 60) hx hb (by omega) (by omega) d_X_squaresFrom_54 (by decide) (fun c_54 => ?_) (fun c_54 => ?_)
            · refine nr_iinc (pc := 60) (lv' := [(3, .int (nI (x + 1))), (2, .int (nI (sm))), (0, .ref (a 0)), (1, .int (nI (f)))]) hx hb d_X_squaresFrom_60 hl (d := 1) rfl (k := 0) rfl (by decide) rfl (fun ls hl => ?_)
              refine lv_goto (pc := 63) (tgt := 18) hx hb d_X_squaresFrom_63 (by decide) ?_
              exact ih_18 sm (x + 1) (by omega) (rf_cnt_f hs (by omega)) (by omega) _ _ I ls (lv_sub hl [0, 1, 2, 3] rfl)
            · refine nr_iinc (pc := 57) (lv' := [(2, .int (nI (sm + 1))), (3, .int (nI (x))), (0, .ref (a 0)), (1, .int (nI (f)))]) hx hb d_X_squaresFrom_57 hl (d := 1) rfl (k := 1) rfl (by decide) rfl (fun ls hl => ?_)
              refine nr_iinc (pc := 60) (lv' := [(3, .int (nI (x + 1))), (2, .int (nI (sm + 1))), (0, .ref (a 0)), (1, .int (nI (f)))]) hx hb d_X_squaresFrom_60 hl (d := 1) rfl (k := 1) rfl (by decide) rfl (fun ls hl => ?_)
              refine lv_goto (pc := 63) (tgt := 18) hx hb d_X_squaresFrom_63 (by decide) ?_
              exact ih_18 (sm + 1) (x + 1) (by omega) (rf_cnt_t hs (by omega)) (by omega) _ _ I ls (lv_sub hl [0, 1, 2, 3] rfl)
    exact lp_18 _ 0 0 (by omega) rfl (Nat.lt_succ_self _) _ _ I ls (lv_sub hl [0, 1, 2, 3] rfl)
  · refine lv_iconst (pc := 8) (v := -1) hx hb d_X_squaresFrom_8 (by decide) ?_
    exact hret _ _ _ _ _ _ I d_X_squaresFrom_9 ⟨Or.inl ⟨fun w => ez.mpr w c_5, rfl⟩, ⟨Af, Fi, La, St, rc, cu, rfl, hcu⟩⟩
set_option maxHeartbeats 4000000 in
set_option maxRecDepth 20000 in
theorem c_X_squares (l : Launch) (dC : Nat → ClassId) (dI : Nat → Nat → Nat) (cA : ClassId) (a : Nat → Nat) (T Af Fi La St : Nat → Nat) (n rc cu : Nat) (hn : n ≤ 48) (hT : ∀ i, T i ≤ 3) (hcu : cu = 0 ∨ (cu = 1 ∧ rf_all T n rc Fi La St)) : X_Mi l dC dI cA a y_X_squares b_X_squares 5 (some .int) (rmL 4) [] (T, Af, Fi, La, St, n, rc, cu) (fun r u => rf_aSq T n r ∧ X_ok T n u) := by
  refine X_meti (by decide) rfl (Nat.le_of_ble_eq_true rfl) ?_
  intro zp ze zs zm za zb zt zc A Q S I hret ls hl
  have hl : lv_has ls 5 [(0, .ref (a 0))] := hl
  have hx := S.1
  have hb := S.2.1
  refine lv_aload_n (pc := 0) hx hb d_X_squares_0 rfl (lv_at hl 0 rfl) ?_
  refine X_callv (pc := 1) (rest := []) [] S (c_X_refresh l dC dI cA a T Af Fi La St n rc cu hn hT hcu) k_X_X_refresh e_X_refresh rfl rfl ⟨Nat.le_of_ble_eq_true rfl, Nat.le_of_ble_eq_true rfl⟩ I rfl hl.1 rfl (Nat.le_of_ble_eq_true rfl) d_X_squares_1 (fun u H locs hw I => ?_)
  obtain ⟨Af', Fi', La', St', rc', hall, rfl⟩ := hw
  have hrc := rf_lst_le hall.1
  refine nr_iconst (pc := 4) hx hb 0 rfl d_X_squares_4 ?_
  refine lv_istore_n (pc := 5) (lv' := [(1, .int (nI (0))), (0, .ref (a 0))]) hx hb d_X_squares_5 rfl hl (by decide) rfl (fun ls hl => ?_)
  refine nr_iconst (pc := 6) hx hb 0 rfl d_X_squares_6 ?_
  refine lv_istore_n (pc := 7) (lv' := [(2, .int (nI (0))), (1, .int (nI (0))), (0, .ref (a 0))]) hx hb d_X_squares_7 rfl hl (by decide) rfl (fun ls hl => ?_)
  have lp_8 : ∀ (fu : Nat) (sm : Nat) (x : Nat), (x ≤ rc') → (sm = rf_sum (fun x => rf_sum (fun p => rf_ind (1 ≤ p ∧ St' x ∣ p) * (La' x + 2 - (2 * p + Fi' x))) (n + 1)) x) → rc' - x < fu → ∀ (H : Heap) (locs : List Loc), X_I dC dI cA a A zs zs.heap H locs (T, Af', Fi', La', St', n, rc', 1) → ∀ ls : Array Slot, lv_has ls 5 [(2, .int (nI (x))), (1, .int (nI (sm))), (0, .ref (a 0))] → W zp l ze (rmL 4) zs zm za zb zt zc H locs 0 0 Q (F0 zm 8 ls []) := by
    intro fu
    induction fu with
    | zero =>
      intro sm x hxr hs hfu
      exact absurd hfu (Nat.not_lt_zero _)
    | succ fu ih_8 =>
      intro sm x hxr hs hfu H locs I ls hl
      refine lv_iload_n (pc := 8) hx hb d_X_squares_8 rfl (lv_at hl 0 rfl) ?_
      refine lv_aload_n (pc := 9) hx hb d_X_squares_9 rfl (lv_at hl 2 rfl) ?_
      refine X_get_runCount (pc := 10) S I d_X_squares_10 ?_
      refine nr_icmp_ge (pc := 13) (tgt := 79) hx hb (by omega) (by omega) d_X_squares_13 (by decide) (fun c_13 => ?_) (fun c_13 => ?_)
      · refine lv_iload_n (pc := 79) hx hb d_X_squares_79 rfl (lv_at hl 1 rfl) ?_
        exact hret _ _ _ _ _ _ I d_X_squares_80 ⟨by unfold rf_aSq; rw [rf_squares hall, hs, show x = rc' by omega], ⟨Af', Fi', La', St', rc', 1, rfl, Or.inr ⟨rfl, hall⟩⟩⟩
      · obtain ⟨hR0, hR1, hR2⟩ := rf_run_b (hall.1.1 x c_13)
        refine lv_aload_n (pc := 16) hx hb d_X_squares_16 rfl (lv_at hl 2 rfl) ?_
        refine X_get_last (pc := 17) S I d_X_squares_17 ?_
        refine lv_iload_n (pc := 20) hx hb d_X_squares_20 rfl (lv_at hl 0 rfl) ?_
        refine X_ald4 (pc := 21) S I (by omega) d_X_squares_21 ?_
        refine lv_aload_n (pc := 22) hx hb d_X_squares_22 rfl (lv_at hl 2 rfl) ?_
        refine X_get_first (pc := 23) S I d_X_squares_23 ?_
        refine lv_iload_n (pc := 26) hx hb d_X_squares_26 rfl (lv_at hl 0 rfl) ?_
        refine X_ald3 (pc := 27) S I (by omega) d_X_squares_27 ?_
        refine nr_isub (pc := 28) hx hb (by omega) d_X_squares_28 ?_
        refine nr_iconst (pc := 29) hx hb 1 rfl d_X_squares_29 ?_
        refine nr_iadd (pc := 30) hx hb d_X_squares_30 ?_
        refine lv_istore_n (pc := 31) (lv' := [(3, .int (nI (((La' x) - (Fi' x)) + 1))), (2, .int (nI (x))), (1, .int (nI (sm))), (0, .ref (a 0))]) hx hb d_X_squares_31 rfl hl (by decide) rfl (fun ls hl => ?_)
        refine nr_iconst (pc := 32) hx hb 2 rfl d_X_squares_32 ?_
        refine lv_aload_n (pc := 33) hx hb d_X_squares_33 rfl (lv_at hl 3 rfl) ?_
        refine X_get_step (pc := 34) S I d_X_squares_34 ?_
        refine lv_iload_n (pc := 37) hx hb d_X_squares_37 rfl (lv_at hl 1 rfl) ?_
        refine X_ald5 (pc := 38) S I (by omega) d_X_squares_38 ?_
        refine nr_imul (pc := 39) hx hb d_X_squares_39 ?_
        refine lv_istore (pc := 40) (lv' := [(4, .int (nI (2 * (St' x)))), (3, .int (nI (((La' x) - (Fi' x)) + 1))), (2, .int (nI (x))), (1, .int (nI (sm))), (0, .ref (a 0))]) hx hb d_X_squares_40 hl (by decide) rfl (fun ls hl => ?_)
        have lp_42 : ∀ (fu : Nat) (sm2 : Nat) (P : Nat), (St' x ∣ P) → (1 ≤ P) → (P ≤ 48) → (sm2 = sm + rf_sum (fun p => rf_ind (1 ≤ p ∧ St' x ∣ p) * (La' x - Fi' x + 1 + 1 - 2 * p)) P) → 49 - P < fu → ∀ (H : Heap) (locs : List Loc), X_I dC dI cA a A zs zs.heap H locs (T, Af', Fi', La', St', n, rc', 1) → ∀ ls : Array Slot, lv_has ls 5 [(4, .int (nI (2 * P))), (3, .int (nI (((La' x) - (Fi' x)) + 1))), (2, .int (nI (x))), (1, .int (nI (sm2))), (0, .ref (a 0))] → W zp l ze (rmL 4) zs zm za zb zt zc H locs 0 0 Q (F0 zm 42 ls []) := by
          intro fu
          induction fu with
          | zero =>
            intro sm2 P hd hP1 hPb hs2 hfu
            exact absurd hfu (Nat.not_lt_zero _)
          | succ fu ih_42 =>
            intro sm2 P hd hP1 hPb hs2 hfu H locs I ls hl
            refine lv_iload (pc := 42) hx hb d_X_squares_42 (lv_at hl 0 rfl) ?_
            refine lv_iload_n (pc := 44) hx hb d_X_squares_44 rfl (lv_at hl 1 rfl) ?_
            refine nr_icmp_gt (pc := 45) (tgt := 73) hx hb (by omega) (by omega) d_X_squares_45 (by decide) (fun c_45 => ?_) (fun c_45 => ?_)
            · have hG := rf_sq_G (q := St' x) (P := P) (f := Fi' x) (g := La' x) (N := n + 1) (by omega) c_45 (by omega)
              refine nr_iinc (pc := 73) (lv' := [(2, .int (nI (x + 1))), (4, .int (nI (2 * P))), (3, .int (nI (((La' x) - (Fi' x)) + 1))), (1, .int (nI (sm2))), (0, .ref (a 0))]) hx hb d_X_squares_73 hl (d := 1) rfl (k := 2) rfl (by decide) rfl (fun ls hl => ?_)
              refine lv_goto (pc := 76) (tgt := 8) hx hb d_X_squares_76 (by decide) ?_
              exact ih_8 sm2 (x + 1) (by omega) (by rw [rf_sum, ← hs, ← hG]; exact hs2) (by omega) _ _ I ls (lv_sub hl [0, 3, 4] rfl)
            · refine lv_iload_n (pc := 48) hx hb d_X_squares_48 rfl (lv_at hl 3 rfl) ?_
              refine lv_iload_n (pc := 49) hx hb d_X_squares_49 rfl (lv_at hl 1 rfl) ?_
              refine lv_iload (pc := 50) hx hb d_X_squares_50 (lv_at hl 0 rfl) ?_
              refine nr_isub (pc := 52) hx hb (by omega) d_X_squares_52 ?_
              refine nr_iconst (pc := 53) hx hb 1 rfl d_X_squares_53 ?_
              refine nr_iadd (pc := 54) hx hb d_X_squares_54 ?_
              refine nr_iadd (pc := 55) hx hb d_X_squares_55 ?_
              refine lv_istore_n (pc := 56) (lv' := [(1, .int (nI (sm2 + (((((La' x) - (Fi' x)) + 1) - (2 * P)) + 1)))), (4, .int (nI (2 * P))), (3, .int (nI (((La' x) - (Fi' x)) + 1))), (2, .int (nI (x))), (0, .ref (a 0))]) hx hb d_X_squares_56 rfl hl (by decide) rfl (fun ls hl => ?_)
              refine lv_iload (pc := 57) hx hb d_X_squares_57 (lv_at hl 1 rfl) ?_
              refine nr_iconst (pc := 59) hx hb 2 rfl d_X_squares_59 ?_
              refine lv_aload_n (pc := 60) hx hb d_X_squares_60 rfl (lv_at hl 4 rfl) ?_
              refine X_get_step (pc := 61) S I d_X_squares_61 ?_
              refine lv_iload_n (pc := 64) hx hb d_X_squares_64 rfl (lv_at hl 3 rfl) ?_
              refine X_ald5 (pc := 65) S I (by omega) d_X_squares_65 ?_
              refine nr_imul (pc := 66) hx hb d_X_squares_66 ?_
              refine nr_iadd (pc := 67) hx hb d_X_squares_67 ?_
              rw [show (2 * P) + (2 * (St' x)) = 2 * (P + St' x) from by omega]
              refine lv_istore (pc := 68) (lv' := [(4, .int (nI (2 * (P + St' x)))), (1, .int (nI (sm2 + (((((La' x) - (Fi' x)) + 1) - (2 * P)) + 1)))), (3, .int (nI (((La' x) - (Fi' x)) + 1))), (2, .int (nI (x))), (0, .ref (a 0))]) hx hb d_X_squares_68 hl (by decide) rfl (fun ls hl => ?_)
              refine lv_goto (pc := 70) (tgt := 42) hx hb d_X_squares_70 (by decide) ?_
              exact ih_42 (sm2 + (((((La' x) - (Fi' x)) + 1) - (2 * P)) + 1)) (P + St' x) (Nat.dvd_add hd (Nat.dvd_refl _)) (by omega) (by omega) (by rw [rf_sq_step hR0 hd hP1, hs2]; omega) (by omega) _ _ I ls (lv_sub hl [0, 2, 3, 1, 4] rfl)
        exact lp_42 _ sm (St' x) (Nat.dvd_refl _) (by omega) (by omega) (by rw [rf_sq_first hR0]; rfl) (Nat.lt_succ_self _) _ _ I ls (lv_sub hl [0, 1, 2, 3, 4] rfl)
  exact lp_8 _ 0 0 (by omega) rfl (Nat.lt_succ_self _) _ _ I ls (lv_sub hl [0, 1, 2] rfl)
set_option maxHeartbeats 4000000 in
set_option maxRecDepth 20000 in
theorem c_X_periodOf (l : Launch) (dC : Nat → ClassId) (dI : Nat → Nat → Nat) (cA : ClassId) (a : Nat → Nat) (T Af Fi La St : Nat → Nat) (n rc cu : Nat) (p0 p1 : Int32) (hn : n ≤ 48) (hT : ∀ i, T i ≤ 3) (hcu : cu = 0 ∨ (cu = 1 ∧ rf_all T n rc Fi La St)) : X_Mi l dC dI cA a y_X_periodOf b_X_periodOf 6 (some .int) (rmL 4) [.int (p0), .int (p1)] (T, Af, Fi, La, St, n, rc, cu) (fun r u => rf_aPOf T n p0 p1 r ∧ X_ok T n u) := by
  refine X_meti (by decide) rfl (Nat.le_of_ble_eq_true rfl) ?_
  intro zp ze zs zm za zb zt zc A Q S I hret ls hl
  have hl : lv_has ls 6 [(0, .ref (a 0)), (1, .int (p0)), (2, .int (p1))] := hl
  have hx := S.1
  have hb := S.2.1
  refine lv_aload_n (pc := 0) hx hb d_X_periodOf_0 rfl (lv_at hl 0 rfl) ?_
  refine lv_iload_n (pc := 1) hx hb d_X_periodOf_1 rfl (lv_at hl 1 rfl) ?_
  refine X_calli (pc := 2) (rest := []) [.int (p0)] S (c_X_isPlace l dC dI cA a T Af Fi La St n rc cu p0 (by omega)) k_X_X_isPlace e_X_isPlace rfl rfl ⟨Nat.le_of_ble_eq_true rfl, Nat.le_of_ble_eq_true rfl⟩ I rfl hl.1 rfl (Nat.le_of_ble_eq_true rfl) d_X_periodOf_2 (fun r u H locs hw I => ?_)
  obtain ⟨z, rfl, hz, ez, rfl⟩ := hw
  refine nr_if_eq (pc := 5) (tgt := 21) hx hb (by omega) d_X_periodOf_5 (by decide) (fun c_5 => ?_) (fun c_5 => ?_)
  · refine lv_iconst (pc := 21) (v := -1) hx hb d_X_periodOf_21 (by decide) ?_
    exact hret _ _ _ _ _ _ I d_X_periodOf_22 ⟨Or.inl ⟨fun w => ez.mpr w.1 c_5, rfl⟩, ⟨Af, Fi, La, St, rc, cu, rfl, hcu⟩⟩
  · have hpi := ez.mp c_5
    obtain ⟨i, hi0, rfl⟩ := ri_nat hpi.1
    have hi := hpi.2
    rw [ri_toI hi0] at hi
    refine lv_aload_n (pc := 8) hx hb d_X_periodOf_8 rfl (lv_at hl 0 rfl) ?_
    refine lv_iload_n (pc := 9) hx hb d_X_periodOf_9 rfl (lv_at hl 2 rfl) ?_
    refine X_calli (pc := 10) (rest := []) [.int (p1)] S (c_X_isPlace l dC dI cA a T Af Fi La St n rc cu p1 (by omega)) k_X_X_isPlace e_X_isPlace rfl rfl ⟨Nat.le_of_ble_eq_true rfl, Nat.le_of_ble_eq_true rfl⟩ I rfl hl.1 rfl (Nat.le_of_ble_eq_true rfl) d_X_periodOf_10 (fun r u H locs hw I => ?_)
    obtain ⟨y, rfl, hy, ey, rfl⟩ := hw
    refine nr_if_eq (pc := 13) (tgt := 21) hx hb (by omega) d_X_periodOf_13 (by decide) (fun c_13 => ?_) (fun c_13 => ?_)
    · refine lv_iconst (pc := 21) (v := -1) hx hb d_X_periodOf_21 (by decide) ?_
      exact hret _ _ _ _ _ _ I d_X_periodOf_22 ⟨Or.inl ⟨fun w => ey.mpr w.2.1 c_13, rfl⟩, ⟨Af, Fi, La, St, rc, cu, rfl, hcu⟩⟩
    · have hpj := ey.mp c_13
      obtain ⟨j, hj0, rfl⟩ := ri_nat hpj.1
      have hj := hpj.2
      rw [ri_toI hj0] at hj
      refine lv_iload_n (pc := 16) hx hb d_X_periodOf_16 rfl (lv_at hl 1 rfl) ?_
      refine lv_iload_n (pc := 17) hx hb d_X_periodOf_17 rfl (lv_at hl 2 rfl) ?_
      refine nr_icmp_le (pc := 18) (tgt := 23) hx hb (by omega) (by omega) d_X_periodOf_18 (by decide) (fun c_18 => ?_) (fun c_18 => ?_)
      · refine lv_aload_n (pc := 23) hx hb d_X_periodOf_23 rfl (lv_at hl 0 rfl) ?_
        refine X_callv (pc := 24) (rest := []) [] S (c_X_refresh l dC dI cA a T Af Fi La St n rc cu hn hT hcu) k_X_X_refresh e_X_refresh rfl rfl ⟨Nat.le_of_ble_eq_true rfl, Nat.le_of_ble_eq_true rfl⟩ I rfl hl.1 rfl (Nat.le_of_ble_eq_true rfl) d_X_periodOf_24 (fun u H locs hw I => ?_)
        obtain ⟨Af', Fi', La', St', rc', hall, rfl⟩ := hw
        have hrc := rf_lst_le hall.1
        refine nr_iconst (pc := 27) hx hb 0 rfl d_X_periodOf_27 ?_
        refine lv_istore_n (pc := 28) (lv' := [(3, .int (nI (0))), (0, .ref (a 0)), (1, .int (nI (i))), (2, .int (nI (j)))]) hx hb d_X_periodOf_28 rfl hl (by decide) rfl (fun ls hl => ?_)
        refine nr_iconst (pc := 29) hx hb 0 rfl d_X_periodOf_29 ?_
        refine lv_istore (pc := 30) (lv' := [(4, .int (nI (0))), (3, .int (nI (0))), (0, .ref (a 0)), (1, .int (nI (i))), (2, .int (nI (j)))]) hx hb d_X_periodOf_30 hl (by decide) rfl (fun ls hl => ?_)
        have lp_32 : ∀ (fu : Nat) (best : Nat) (x : Nat), (x ≤ rc') → (best ≤ 48) → (rf_best (fun r => Fi' r ≤ i ∧ j ≤ La' r ∧ 2 * St' r ≤ j - i + 1) St' x best) → rc' - x < fu → ∀ (H : Heap) (locs : List Loc), X_I dC dI cA a A zs zs.heap H locs (T, Af', Fi', La', St', n, rc', 1) → ∀ ls : Array Slot, lv_has ls 6 [(4, .int (nI (x))), (3, .int (nI (best))), (0, .ref (a 0)), (1, .int (nI (i))), (2, .int (nI (j)))] → W zp l ze (rmL 4) zs zm za zb zt zc H locs 0 0 Q (F0 zm 32 ls []) := by
          intro fu
          induction fu with
          | zero =>
            intro best x hxr hbb hbs hfu
            exact absurd hfu (Nat.not_lt_zero _)
          | succ fu ih_32 =>
            intro best x hxr hbb hbs hfu H locs I ls hl
            refine lv_iload (pc := 32) hx hb d_X_periodOf_32 (lv_at hl 0 rfl) ?_
            refine lv_aload_n (pc := 34) hx hb d_X_periodOf_34 rfl (lv_at hl 2 rfl) ?_
            refine X_get_runCount (pc := 35) S I d_X_periodOf_35 ?_
            refine nr_icmp_ge (pc := 38) (tgt := 121) hx hb (by omega) (by omega) d_X_periodOf_38 (by decide) (fun c_38 => ?_) (fun c_38 => ?_)
            · refine lv_iload_n (pc := 121) hx hb d_X_periodOf_121 rfl (lv_at hl 1 rfl) ?_
              obtain ⟨d, hd⟩ := rf_lp_ex (T := T) (show i < j + 1 by omega)
              have hfin := rf_perOf hall c_18 (by omega) hd (by have q := hbs; rw [show x = rc' by omega] at q; exact q)
              exact hret _ _ _ _ _ _ I d_X_periodOf_122 ⟨Or.inr ⟨i, j, d, rfl, rfl, c_18, by omega, hd, by rw [hfin]⟩, ⟨Af', Fi', La', St', rc', 1, rfl, Or.inr ⟨rfl, hall⟩⟩⟩
            · obtain ⟨hR0, hR1, hR2⟩ := rf_run_b (hall.1.1 x c_38)
              refine lv_aload_n (pc := 41) hx hb d_X_periodOf_41 rfl (lv_at hl 2 rfl) ?_
              refine X_get_first (pc := 42) S I d_X_periodOf_42 ?_
              refine lv_iload (pc := 45) hx hb d_X_periodOf_45 (lv_at hl 0 rfl) ?_
              refine X_ald3 (pc := 47) S I (by omega) d_X_periodOf_47 ?_
              refine lv_iload_n (pc := 48) hx hb d_X_periodOf_48 rfl (lv_at hl 3 rfl) ?_
              refine nr_icmp_gt (pc := 49) (tgt := 67) hx hb (by omega) (by omega) d_X_periodOf_49 (by decide) (fun c_49 => ?_) (fun c_49 => ?_)
              · refine nr_iconst (pc := 67) hx hb 0 rfl d_X_periodOf_67 ?_
                refine lv_istore (pc := 68) (lv' := [(5, .int (nI (0))), (4, .int (nI (x))), (3, .int (nI (best))), (0, .ref (a 0)), (1, .int (nI (i))), (2, .int (nI (j)))]) hx hb d_X_periodOf_68 hl (by decide) rfl (fun ls hl => ?_)
                refine lv_iload (pc := 70) hx hb d_X_periodOf_70 (lv_at hl 0 rfl) ?_
                refine nr_if_eq (pc := 72) (tgt := 115) hx hb (by decide) d_X_periodOf_72 (by decide) (fun c_72 => ?_) (fun c_72 => ?_)
                · refine nr_iinc (pc := 115) (lv' := [(4, .int (nI (x + 1))), (5, .int (nI (0))), (3, .int (nI (best))), (0, .ref (a 0)), (1, .int (nI (i))), (2, .int (nI (j)))]) hx hb d_X_periodOf_115 hl (d := 1) rfl (k := 1) rfl (by decide) rfl (fun ls hl => ?_)
                  refine lv_goto (pc := 118) (tgt := 32) hx hb d_X_periodOf_118 (by decide) ?_
                  exact ih_32 best (x + 1) (by omega) (by omega) (by first | exact rf_best_n hbs (by omega) | exact rf_best_k hbs c_93 c_104) (by omega) _ _ I ls (lv_sub hl [0, 2, 3, 4, 5] rfl)
                · exact absurd c_72 (by omega)
              · refine lv_iload_n (pc := 52) hx hb d_X_periodOf_52 rfl (lv_at hl 4 rfl) ?_
                refine lv_aload_n (pc := 53) hx hb d_X_periodOf_53 rfl (lv_at hl 2 rfl) ?_
                refine X_get_last (pc := 54) S I d_X_periodOf_54 ?_
                refine lv_iload (pc := 57) hx hb d_X_periodOf_57 (lv_at hl 0 rfl) ?_
                refine X_ald4 (pc := 59) S I (by omega) d_X_periodOf_59 ?_
                refine nr_icmp_gt (pc := 60) (tgt := 67) hx hb (by omega) (by omega) d_X_periodOf_60 (by decide) (fun c_60 => ?_) (fun c_60 => ?_)
                · refine nr_iconst (pc := 67) hx hb 0 rfl d_X_periodOf_67 ?_
                  refine lv_istore (pc := 68) (lv' := [(5, .int (nI (0))), (4, .int (nI (x))), (3, .int (nI (best))), (0, .ref (a 0)), (1, .int (nI (i))), (2, .int (nI (j)))]) hx hb d_X_periodOf_68 hl (by decide) rfl (fun ls hl => ?_)
                  refine lv_iload (pc := 70) hx hb d_X_periodOf_70 (lv_at hl 0 rfl) ?_
                  refine nr_if_eq (pc := 72) (tgt := 115) hx hb (by decide) d_X_periodOf_72 (by decide) (fun c_72 => ?_) (fun c_72 => ?_)
                  · refine nr_iinc (pc := 115) (lv' := [(4, .int (nI (x + 1))), (5, .int (nI (0))), (3, .int (nI (best))), (0, .ref (a 0)), (1, .int (nI (i))), (2, .int (nI (j)))]) hx hb d_X_periodOf_115 hl (d := 1) rfl (k := 1) rfl (by decide) rfl (fun ls hl => ?_)
                    refine lv_goto (pc := 118) (tgt := 32) hx hb d_X_periodOf_118 (by decide) ?_
                    exact ih_32 best (x + 1) (by omega) (by omega) (by first | exact rf_best_n hbs (by omega) | exact rf_best_k hbs c_93 c_104) (by omega) _ _ I ls (lv_sub hl [0, 2, 3, 4, 5] rfl)
                  · exact absurd c_72 (by omega)
                · refine nr_iconst (pc := 63) hx hb 1 rfl d_X_periodOf_63 ?_
                  refine lv_goto (pc := 64) (tgt := 68) hx hb d_X_periodOf_64 (by decide) ?_
                  refine lv_istore (pc := 68) (lv' := [(5, .int (nI (1))), (4, .int (nI (x))), (3, .int (nI (best))), (0, .ref (a 0)), (1, .int (nI (i))), (2, .int (nI (j)))]) hx hb d_X_periodOf_68 hl (by decide) rfl (fun ls hl => ?_)
                  refine lv_iload (pc := 70) hx hb d_X_periodOf_70 (lv_at hl 0 rfl) ?_
                  refine nr_if_eq (pc := 72) (tgt := 115) hx hb (by decide) d_X_periodOf_72 (by decide) (fun c_72 => ?_) (fun c_72 => ?_)
                  · exact absurd c_72 (by omega)
                  · refine nr_iconst (pc := 75) hx hb 2 rfl d_X_periodOf_75 ?_
                    refine lv_aload_n (pc := 76) hx hb d_X_periodOf_76 rfl (lv_at hl 3 rfl) ?_
                    refine X_get_step (pc := 77) S I d_X_periodOf_77 ?_
                    refine lv_iload (pc := 80) hx hb d_X_periodOf_80 (lv_at hl 1 rfl) ?_
                    refine X_ald5 (pc := 82) S I (by omega) d_X_periodOf_82 ?_
                    refine nr_imul (pc := 83) hx hb d_X_periodOf_83 ?_
                    refine lv_iload_n (pc := 84) hx hb d_X_periodOf_84 rfl (lv_at hl 5 rfl) ?_
                    refine lv_iload_n (pc := 85) hx hb d_X_periodOf_85 rfl (lv_at hl 4 rfl) ?_
                    refine nr_isub (pc := 86) hx hb (by omega) d_X_periodOf_86 ?_
                    refine nr_iconst (pc := 87) hx hb 1 rfl d_X_periodOf_87 ?_
                    refine nr_iadd (pc := 88) hx hb d_X_periodOf_88 ?_
                    refine nr_icmp_gt (pc := 89) (tgt := 115) hx hb (by omega) (by omega) d_X_periodOf_89 (by decide) (fun c_89 => ?_) (fun c_89 => ?_)
                    · refine nr_iinc (pc := 115) (lv' := [(4, .int (nI (x + 1))), (5, .int (nI (1))), (3, .int (nI (best))), (0, .ref (a 0)), (1, .int (nI (i))), (2, .int (nI (j)))]) hx hb d_X_periodOf_115 hl (d := 1) rfl (k := 1) rfl (by decide) rfl (fun ls hl => ?_)
                      refine lv_goto (pc := 118) (tgt := 32) hx hb d_X_periodOf_118 (by decide) ?_
                      exact ih_32 best (x + 1) (by omega) (by omega) (by first | exact rf_best_n hbs (by omega) | exact rf_best_k hbs c_93 c_104) (by omega) _ _ I ls (lv_sub hl [0, 2, 3, 4, 5] rfl)
                    · refine lv_iload_n (pc := 92) hx hb d_X_periodOf_92 rfl (lv_at hl 2 rfl) ?_
                      refine nr_if_eq (pc := 93) (tgt := 107) hx hb (by omega) d_X_periodOf_93 (by decide) (fun c_93 => ?_) (fun c_93 => ?_)
                      · refine lv_aload_n (pc := 107) hx hb d_X_periodOf_107 rfl (lv_at hl 3 rfl) ?_
                        refine X_get_step (pc := 108) S I d_X_periodOf_108 ?_
                        refine lv_iload (pc := 111) hx hb d_X_periodOf_111 (lv_at hl 1 rfl) ?_
                        refine X_ald5 (pc := 113) S I (by omega) d_X_periodOf_113 ?_
                        refine lv_istore_n (pc := 114) (lv' := [(3, .int (nI (St' x))), (5, .int (nI (1))), (4, .int (nI (x))), (0, .ref (a 0)), (1, .int (nI (i))), (2, .int (nI (j)))]) hx hb d_X_periodOf_114 rfl hl (by decide) rfl (fun ls hl => ?_)
                        refine nr_iinc (pc := 115) (lv' := [(4, .int (nI (x + 1))), (3, .int (nI (St' x))), (5, .int (nI (1))), (0, .ref (a 0)), (1, .int (nI (i))), (2, .int (nI (j)))]) hx hb d_X_periodOf_115 hl (d := 1) rfl (k := 2) rfl (by decide) rfl (fun ls hl => ?_)
                        refine lv_goto (pc := 118) (tgt := 32) hx hb d_X_periodOf_118 (by decide) ?_
                        exact ih_32 (St' x) (x + 1) (by omega) (by omega) (rf_best_s hbs (by omega) (by omega) (fun r hr => (hall.1.1 r (by omega)).1)) (by omega) _ _ I ls (lv_sub hl [0, 1, 3, 4, 5] rfl)
                      · refine lv_aload_n (pc := 96) hx hb d_X_periodOf_96 rfl (lv_at hl 3 rfl) ?_
                        refine X_get_step (pc := 97) S I d_X_periodOf_97 ?_
                        refine lv_iload (pc := 100) hx hb d_X_periodOf_100 (lv_at hl 1 rfl) ?_
                        refine X_ald5 (pc := 102) S I (by omega) d_X_periodOf_102 ?_
                        refine lv_iload_n (pc := 103) hx hb d_X_periodOf_103 rfl (lv_at hl 2 rfl) ?_
                        refine nr_icmp_ge (pc := 104) (tgt := 115) hx hb (by omega) (by omega) d_X_periodOf_104 (by decide) (fun c_104 => ?_) (fun c_104 => ?_)
                        · refine nr_iinc (pc := 115) (lv' := [(4, .int (nI (x + 1))), (5, .int (nI (1))), (3, .int (nI (best))), (0, .ref (a 0)), (1, .int (nI (i))), (2, .int (nI (j)))]) hx hb d_X_periodOf_115 hl (d := 1) rfl (k := 1) rfl (by decide) rfl (fun ls hl => ?_)
                          refine lv_goto (pc := 118) (tgt := 32) hx hb d_X_periodOf_118 (by decide) ?_
                          exact ih_32 best (x + 1) (by omega) (by omega) (by first | exact rf_best_n hbs (by omega) | exact rf_best_k hbs c_93 c_104) (by omega) _ _ I ls (lv_sub hl [0, 2, 3, 4, 5] rfl)
                        · refine lv_aload_n (pc := 107) hx hb d_X_periodOf_107 rfl (lv_at hl 3 rfl) ?_
                          refine X_get_step (pc := 108) S I d_X_periodOf_108 ?_
                          refine lv_iload (pc := 111) hx hb d_X_periodOf_111 (lv_at hl 1 rfl) ?_
                          refine X_ald5 (pc := 113) S I (by omega) d_X_periodOf_113 ?_
                          refine lv_istore_n (pc := 114) (lv' := [(3, .int (nI (St' x))), (5, .int (nI (1))), (4, .int (nI (x))), (0, .ref (a 0)), (1, .int (nI (i))), (2, .int (nI (j)))]) hx hb d_X_periodOf_114 rfl hl (by decide) rfl (fun ls hl => ?_)
                          refine nr_iinc (pc := 115) (lv' := [(4, .int (nI (x + 1))), (3, .int (nI (St' x))), (5, .int (nI (1))), (0, .ref (a 0)), (1, .int (nI (i))), (2, .int (nI (j)))]) hx hb d_X_periodOf_115 hl (d := 1) rfl (k := 2) rfl (by decide) rfl (fun ls hl => ?_)
                          refine lv_goto (pc := 118) (tgt := 32) hx hb d_X_periodOf_118 (by decide) ?_
                          exact ih_32 (St' x) (x + 1) (by omega) (by omega) (rf_best_s hbs (by omega) (by omega) (fun r hr => (hall.1.1 r (by omega)).1)) (by omega) _ _ I ls (lv_sub hl [0, 1, 3, 4, 5] rfl)
        exact lp_32 _ 0 0 (by omega) (by omega) rf_best_0 (Nat.lt_succ_self _) _ _ I ls (lv_sub hl [0, 1, 2, 3, 4] rfl)
      · refine lv_iconst (pc := 21) (v := -1) hx hb d_X_periodOf_21 (by decide) ?_
        exact hret _ _ _ _ _ _ I d_X_periodOf_22 ⟨Or.inl ⟨fun w => by have q := w.2.2; rw [ri_toI hi0, ri_toI hj0] at q; omega, rfl⟩, ⟨Af, Fi, La, St, rc, cu, rfl, hcu⟩⟩
set_option maxHeartbeats 4000000 in
set_option maxRecDepth 20000 in
theorem c_X_longest (l : Launch) (dC : Nat → ClassId) (dI : Nat → Nat → Nat) (cA : ClassId) (a : Nat → Nat) (T Af Fi La St : Nat → Nat) (n rc cu : Nat) (hn : n ≤ 48) (hT : ∀ i, T i ≤ 3) (hcu : cu = 0 ∨ (cu = 1 ∧ rf_all T n rc Fi La St)) : X_Mi l dC dI cA a y_X_longest b_X_longest 4 (some .int) (rmL 4) [] (T, Af, Fi, La, St, n, rc, cu) (fun r u => rf_aLong T n r ∧ X_ok T n u) := by
  refine X_meti (by decide) rfl (Nat.le_of_ble_eq_true rfl) ?_
  intro zp ze zs zm za zb zt zc A Q S I hret ls hl
  have hl : lv_has ls 4 [(0, .ref (a 0))] := hl
  have hx := S.1
  have hb := S.2.1
  refine lv_aload_n (pc := 0) hx hb d_X_longest_0 rfl (lv_at hl 0 rfl) ?_
  refine X_callv (pc := 1) (rest := []) [] S (c_X_refresh l dC dI cA a T Af Fi La St n rc cu hn hT hcu) k_X_X_refresh e_X_refresh rfl rfl ⟨Nat.le_of_ble_eq_true rfl, Nat.le_of_ble_eq_true rfl⟩ I rfl hl.1 rfl (Nat.le_of_ble_eq_true rfl) d_X_longest_1 (fun u H locs hw I => ?_)
  obtain ⟨Af', Fi', La', St', rc', hall, rfl⟩ := hw
  have hrc := rf_lst_le hall.1
  refine nr_iconst (pc := 4) hx hb 0 rfl d_X_longest_4 ?_
  refine lv_istore_n (pc := 5) (lv' := [(1, .int (nI (0))), (0, .ref (a 0))]) hx hb d_X_longest_5 rfl hl (by decide) rfl (fun ls hl => ?_)
  refine nr_iconst (pc := 6) hx hb 0 rfl d_X_longest_6 ?_
  refine lv_istore_n (pc := 7) (lv' := [(2, .int (nI (0))), (1, .int (nI (0))), (0, .ref (a 0))]) hx hb d_X_longest_7 rfl hl (by decide) rfl (fun ls hl => ?_)
  have lp_8 : ∀ (fu : Nat) (mx : Nat) (x : Nat), (x ≤ rc') → (mx ≤ 48) → (mx = rf_max (fun x => La' x - Fi' x + 1) x) → rc' - x < fu → ∀ (H : Heap) (locs : List Loc), X_I dC dI cA a A zs zs.heap H locs (T, Af', Fi', La', St', n, rc', 1) → ∀ ls : Array Slot, lv_has ls 4 [(2, .int (nI (x))), (1, .int (nI (mx))), (0, .ref (a 0))] → W zp l ze (rmL 4) zs zm za zb zt zc H locs 0 0 Q (F0 zm 8 ls []) := by
    intro fu
    induction fu with
    | zero =>
      intro mx x hxr hmb hm hfu
      exact absurd hfu (Nat.not_lt_zero _)
    | succ fu ih_8 =>
      intro mx x hxr hmb hm hfu H locs I ls hl
      refine lv_iload_n (pc := 8) hx hb d_X_longest_8 rfl (lv_at hl 0 rfl) ?_
      refine lv_aload_n (pc := 9) hx hb d_X_longest_9 rfl (lv_at hl 2 rfl) ?_
      refine X_get_runCount (pc := 10) S I d_X_longest_10 ?_
      refine nr_icmp_ge (pc := 13) (tgt := 49) hx hb (by omega) (by omega) d_X_longest_13 (by decide) (fun c_13 => ?_) (fun c_13 => ?_)
      · refine lv_iload_n (pc := 49) hx hb d_X_longest_49 rfl (lv_at hl 1 rfl) ?_
        exact hret _ _ _ _ _ _ I d_X_longest_50 ⟨⟨rc', Fi', La', St', hall, by rw [hm, show x = rc' by omega]⟩, ⟨Af', Fi', La', St', rc', 1, rfl, Or.inr ⟨rfl, hall⟩⟩⟩
      · obtain ⟨hR0, hR1, hR2⟩ := rf_run_b (hall.1.1 x c_13)
        refine lv_aload_n (pc := 16) hx hb d_X_longest_16 rfl (lv_at hl 2 rfl) ?_
        refine X_get_last (pc := 17) S I d_X_longest_17 ?_
        refine lv_iload_n (pc := 20) hx hb d_X_longest_20 rfl (lv_at hl 0 rfl) ?_
        refine X_ald4 (pc := 21) S I (by omega) d_X_longest_21 ?_
        refine lv_aload_n (pc := 22) hx hb d_X_longest_22 rfl (lv_at hl 2 rfl) ?_
        refine X_get_first (pc := 23) S I d_X_longest_23 ?_
        refine lv_iload_n (pc := 26) hx hb d_X_longest_26 rfl (lv_at hl 0 rfl) ?_
        refine X_ald3 (pc := 27) S I (by omega) d_X_longest_27 ?_
        refine nr_isub (pc := 28) hx hb (by omega) d_X_longest_28 ?_
        refine nr_iconst (pc := 29) hx hb 1 rfl d_X_longest_29 ?_
        refine nr_iadd (pc := 30) hx hb d_X_longest_30 ?_
        refine lv_istore_n (pc := 31) (lv' := [(3, .int (nI (((La' x) - (Fi' x)) + 1))), (2, .int (nI (x))), (1, .int (nI (mx))), (0, .ref (a 0))]) hx hb d_X_longest_31 rfl hl (by decide) rfl (fun ls hl => ?_)
        refine lv_iload_n (pc := 32) hx hb d_X_longest_32 rfl (lv_at hl 0 rfl) ?_
        refine lv_iload_n (pc := 33) hx hb d_X_longest_33 rfl (lv_at hl 2 rfl) ?_
        refine nr_icmp_le (pc := 34) (tgt := 41) hx hb (by omega) (by omega) d_X_longest_34 (by decide) (fun c_34 => ?_) (fun c_34 => ?_)
        · refine lv_iload_n (pc := 41) hx hb d_X_longest_41 rfl (lv_at hl 2 rfl) ?_
          refine lv_istore_n (pc := 42) (lv' := [(1, .int (nI (mx))), (3, .int (nI (((La' x) - (Fi' x)) + 1))), (2, .int (nI (x))), (0, .ref (a 0))]) hx hb d_X_longest_42 rfl hl (by decide) rfl (fun ls hl => ?_)
          refine nr_iinc (pc := 43) (lv' := [(2, .int (nI (x + 1))), (1, .int (nI (mx))), (3, .int (nI (((La' x) - (Fi' x)) + 1))), (0, .ref (a 0))]) hx hb d_X_longest_43 hl (d := 1) rfl (k := 2) rfl (by decide) rfl (fun ls hl => ?_)
          refine lv_goto (pc := 46) (tgt := 8) hx hb d_X_longest_46 (by decide) ?_
          exact ih_8 mx (x + 1) (by omega) (by omega) (rf_max_f hm c_34) (by omega) _ _ I ls (lv_sub hl [0, 1, 3] rfl)
        · refine lv_iload_n (pc := 37) hx hb d_X_longest_37 rfl (lv_at hl 0 rfl) ?_
          refine lv_goto (pc := 38) (tgt := 42) hx hb d_X_longest_38 (by decide) ?_
          refine lv_istore_n (pc := 42) (lv' := [(1, .int (nI (((La' x) - (Fi' x)) + 1))), (3, .int (nI (((La' x) - (Fi' x)) + 1))), (2, .int (nI (x))), (0, .ref (a 0))]) hx hb d_X_longest_42 rfl hl (by decide) rfl (fun ls hl => ?_)
          refine nr_iinc (pc := 43) (lv' := [(2, .int (nI (x + 1))), (1, .int (nI (((La' x) - (Fi' x)) + 1))), (3, .int (nI (((La' x) - (Fi' x)) + 1))), (0, .ref (a 0))]) hx hb d_X_longest_43 hl (d := 1) rfl (k := 2) rfl (by decide) rfl (fun ls hl => ?_)
          refine lv_goto (pc := 46) (tgt := 8) hx hb d_X_longest_46 (by decide) ?_
          exact ih_8 (((La' x) - (Fi' x)) + 1) (x + 1) (by omega) (by omega) (rf_max_t (f := fun x => La' x - Fi' x + 1) hm c_34) (by omega) _ _ I ls (lv_sub hl [0, 1, 3] rfl)
  exact lp_8 _ 0 0 (by omega) (by omega) rfl (Nat.lt_succ_self _) _ _ I ls (lv_sub hl [0, 1, 2] rfl)
set_option maxHeartbeats 4000000 in
set_option maxRecDepth 20000 in
theorem c_X_power (l : Launch) (dC : Nat → ClassId) (dI : Nat → Nat → Nat) (cA : ClassId) (a : Nat → Nat) (T Af Fi La St : Nat → Nat) (n rc cu : Nat) (hn : n ≤ 48) (hT : ∀ i, T i ≤ 3) (hcu : cu = 0 ∨ (cu = 1 ∧ rf_all T n rc Fi La St)) : X_Mi l dC dI cA a y_X_power b_X_power 5 (some .int) (rmL 4) [] (T, Af, Fi, La, St, n, rc, cu) (fun r u => rf_aPow T n r ∧ X_ok T n u) := by
  refine X_meti (by decide) rfl (Nat.le_of_ble_eq_true rfl) ?_
  intro zp ze zs zm za zb zt zc A Q S I hret ls hl
  have hl : lv_has ls 5 [(0, .ref (a 0))] := hl
  have hx := S.1
  have hb := S.2.1
  refine lv_aload_n (pc := 0) hx hb d_X_power_0 rfl (lv_at hl 0 rfl) ?_
  refine X_callv (pc := 1) (rest := []) [] S (c_X_refresh l dC dI cA a T Af Fi La St n rc cu hn hT hcu) k_X_X_refresh e_X_refresh rfl rfl ⟨Nat.le_of_ble_eq_true rfl, Nat.le_of_ble_eq_true rfl⟩ I rfl hl.1 rfl (Nat.le_of_ble_eq_true rfl) d_X_power_1 (fun u H locs hw I => ?_)
  obtain ⟨Af', Fi', La', St', rc', hall, rfl⟩ := hw
  have hrc := rf_lst_le hall.1
  refine nr_iconst (pc := 4) hx hb 0 rfl d_X_power_4 ?_
  refine lv_istore_n (pc := 5) (lv' := [(1, .int (nI (0))), (0, .ref (a 0))]) hx hb d_X_power_5 rfl hl (by decide) rfl (fun ls hl => ?_)
  refine nr_iconst (pc := 6) hx hb 0 rfl d_X_power_6 ?_
  refine lv_istore_n (pc := 7) (lv' := [(2, .int (nI (0))), (1, .int (nI (0))), (0, .ref (a 0))]) hx hb d_X_power_7 rfl hl (by decide) rfl (fun ls hl => ?_)
  have lp_8 : ∀ (fu : Nat) (mx : Nat) (x : Nat), (x ≤ rc') → (mx ≤ 49) → (mx = rf_max (fun x => (La' x - Fi' x + 1) / St' x) x) → rc' - x < fu → ∀ (H : Heap) (locs : List Loc), X_I dC dI cA a A zs zs.heap H locs (T, Af', Fi', La', St', n, rc', 1) → ∀ ls : Array Slot, lv_has ls 5 [(2, .int (nI (x))), (1, .int (nI (mx))), (0, .ref (a 0))] → W zp l ze (rmL 4) zs zm za zb zt zc H locs 0 0 Q (F0 zm 8 ls []) := by
    intro fu
    induction fu with
    | zero =>
      intro mx x hxr hmb hm hfu
      exact absurd hfu (Nat.not_lt_zero _)
    | succ fu ih_8 =>
      intro mx x hxr hmb hm hfu H locs I ls hl
      refine lv_iload_n (pc := 8) hx hb d_X_power_8 rfl (lv_at hl 0 rfl) ?_
      refine lv_aload_n (pc := 9) hx hb d_X_power_9 rfl (lv_at hl 2 rfl) ?_
      refine X_get_runCount (pc := 10) S I d_X_power_10 ?_
      refine nr_icmp_ge (pc := 13) (tgt := 80) hx hb (by omega) (by omega) d_X_power_13 (by decide) (fun c_13 => ?_) (fun c_13 => ?_)
      · refine lv_iload_n (pc := 80) hx hb d_X_power_80 rfl (lv_at hl 1 rfl) ?_
        exact hret _ _ _ _ _ _ I d_X_power_81 ⟨⟨rc', Fi', La', St', hall, by rw [hm, show x = rc' by omega]⟩, ⟨Af', Fi', La', St', rc', 1, rfl, Or.inr ⟨rfl, hall⟩⟩⟩
      · obtain ⟨hR0, hR1, hR2⟩ := rf_run_b (hall.1.1 x c_13)
        refine nr_iconst (pc := 16) hx hb 0 rfl d_X_power_16 ?_
        refine lv_istore_n (pc := 17) (lv' := [(3, .int (nI (0))), (2, .int (nI (x))), (1, .int (nI (mx))), (0, .ref (a 0))]) hx hb d_X_power_17 rfl hl (by decide) rfl (fun ls hl => ?_)
        refine lv_aload_n (pc := 18) hx hb d_X_power_18 rfl (lv_at hl 3 rfl) ?_
        refine X_get_last (pc := 19) S I d_X_power_19 ?_
        refine lv_iload_n (pc := 22) hx hb d_X_power_22 rfl (lv_at hl 1 rfl) ?_
        refine X_ald4 (pc := 23) S I (by omega) d_X_power_23 ?_
        refine lv_aload_n (pc := 24) hx hb d_X_power_24 rfl (lv_at hl 3 rfl) ?_
        refine X_get_first (pc := 25) S I d_X_power_25 ?_
        refine lv_iload_n (pc := 28) hx hb d_X_power_28 rfl (lv_at hl 1 rfl) ?_
        refine X_ald3 (pc := 29) S I (by omega) d_X_power_29 ?_
        refine nr_isub (pc := 30) hx hb (by omega) d_X_power_30 ?_
        refine nr_iconst (pc := 31) hx hb 1 rfl d_X_power_31 ?_
        refine nr_iadd (pc := 32) hx hb d_X_power_32 ?_
        refine lv_istore (pc := 33) (lv' := [(4, .int (nI (((La' x) - (Fi' x)) + 1))), (3, .int (nI (0))), (2, .int (nI (x))), (1, .int (nI (mx))), (0, .ref (a 0))]) hx hb d_X_power_33 hl (by decide) rfl (fun ls hl => ?_)
        have lp_35 : ∀ (fu : Nat) (tm : Nat) (sz : Nat), (tm + sz ≤ 49) → ((La' x - Fi' x + 1) / St' x = tm + sz / St' x) → sz < fu → ∀ (H : Heap) (locs : List Loc), X_I dC dI cA a A zs zs.heap H locs (T, Af', Fi', La', St', n, rc', 1) → ∀ ls : Array Slot, lv_has ls 5 [(4, .int (nI (sz))), (3, .int (nI (tm))), (2, .int (nI (x))), (1, .int (nI (mx))), (0, .ref (a 0))] → W zp l ze (rmL 4) zs zm za zb zt zc H locs 0 0 Q (F0 zm 35 ls []) := by
          intro fu
          induction fu with
          | zero =>
            intro tm sz hts ht hfu
            exact absurd hfu (Nat.not_lt_zero _)
          | succ fu ih_35 =>
            intro tm sz hts ht hfu H locs I ls hl
            refine lv_iload (pc := 35) hx hb d_X_power_35 (lv_at hl 0 rfl) ?_
            refine lv_aload_n (pc := 37) hx hb d_X_power_37 rfl (lv_at hl 4 rfl) ?_
            refine X_get_step (pc := 38) S I d_X_power_38 ?_
            refine lv_iload_n (pc := 41) hx hb d_X_power_41 rfl (lv_at hl 2 rfl) ?_
            refine X_ald5 (pc := 42) S I (by omega) d_X_power_42 ?_
            refine nr_icmp_lt (pc := 43) (tgt := 63) hx hb (by omega) (by omega) d_X_power_43 (by decide) (fun c_43 => ?_) (fun c_43 => ?_)
            · have htm : (La' x - Fi' x + 1) / St' x = tm := by rw [ht, Nat.div_eq_of_lt c_43]; rfl
              refine lv_iload_n (pc := 63) hx hb d_X_power_63 rfl (lv_at hl 1 rfl) ?_
              refine lv_iload_n (pc := 64) hx hb d_X_power_64 rfl (lv_at hl 3 rfl) ?_
              refine nr_icmp_le (pc := 65) (tgt := 72) hx hb (by omega) (by omega) d_X_power_65 (by decide) (fun c_65 => ?_) (fun c_65 => ?_)
              · refine lv_iload_n (pc := 72) hx hb d_X_power_72 rfl (lv_at hl 3 rfl) ?_
                refine lv_istore_n (pc := 73) (lv' := [(1, .int (nI (mx))), (4, .int (nI (sz))), (3, .int (nI (tm))), (2, .int (nI (x))), (0, .ref (a 0))]) hx hb d_X_power_73 rfl hl (by decide) rfl (fun ls hl => ?_)
                refine nr_iinc (pc := 74) (lv' := [(2, .int (nI (x + 1))), (1, .int (nI (mx))), (4, .int (nI (sz))), (3, .int (nI (tm))), (0, .ref (a 0))]) hx hb d_X_power_74 hl (d := 1) rfl (k := 3) rfl (by decide) rfl (fun ls hl => ?_)
                refine lv_goto (pc := 77) (tgt := 8) hx hb d_X_power_77 (by decide) ?_
                exact ih_8 mx (x + 1) (by omega) (by omega) (rf_max_f (f := fun x => (La' x - Fi' x + 1) / St' x) hm (by show _ / _ ≤ _; rw [htm]; exact c_65)) (by omega) _ _ I ls (lv_sub hl [0, 1, 4] rfl)
              · refine lv_iload_n (pc := 68) hx hb d_X_power_68 rfl (lv_at hl 1 rfl) ?_
                refine lv_goto (pc := 69) (tgt := 73) hx hb d_X_power_69 (by decide) ?_
                refine lv_istore_n (pc := 73) (lv' := [(1, .int (nI (tm))), (4, .int (nI (sz))), (3, .int (nI (tm))), (2, .int (nI (x))), (0, .ref (a 0))]) hx hb d_X_power_73 rfl hl (by decide) rfl (fun ls hl => ?_)
                refine nr_iinc (pc := 74) (lv' := [(2, .int (nI (x + 1))), (1, .int (nI (tm))), (4, .int (nI (sz))), (3, .int (nI (tm))), (0, .ref (a 0))]) hx hb d_X_power_74 hl (d := 1) rfl (k := 3) rfl (by decide) rfl (fun ls hl => ?_)
                refine lv_goto (pc := 77) (tgt := 8) hx hb d_X_power_77 (by decide) ?_
                exact ih_8 tm (x + 1) (by omega) (by omega) (by have q := rf_max_t (f := fun x => (La' x - Fi' x + 1) / St' x) hm (by show _ < _ / _; rw [htm]; exact c_65); rw [← q]; exact htm.symm) (by omega) _ _ I ls (lv_sub hl [0, 1, 4] rfl)
            · refine nr_iinc (pc := 46) (lv' := [(3, .int (nI (tm + 1))), (4, .int (nI (sz))), (2, .int (nI (x))), (1, .int (nI (mx))), (0, .ref (a 0))]) hx hb d_X_power_46 hl (d := 1) rfl (k := 1) rfl (by decide) rfl (fun ls hl => ?_)
              refine lv_iload (pc := 49) hx hb d_X_power_49 (lv_at hl 1 rfl) ?_
              refine lv_aload_n (pc := 51) hx hb d_X_power_51 rfl (lv_at hl 4 rfl) ?_
              refine X_get_step (pc := 52) S I d_X_power_52 ?_
              refine lv_iload_n (pc := 55) hx hb d_X_power_55 rfl (lv_at hl 2 rfl) ?_
              refine X_ald5 (pc := 56) S I (by omega) d_X_power_56 ?_
              refine nr_isub (pc := 57) hx hb (by omega) d_X_power_57 ?_
              refine lv_istore (pc := 58) (lv' := [(4, .int (nI (sz - (St' x)))), (3, .int (nI (tm + 1))), (2, .int (nI (x))), (1, .int (nI (mx))), (0, .ref (a 0))]) hx hb d_X_power_58 hl (by decide) rfl (fun ls hl => ?_)
              refine lv_goto (pc := 60) (tgt := 35) hx hb d_X_power_60 (by decide) ?_
              exact ih_35 (tm + 1) (sz - (St' x)) (by omega) (by rw [ht, Nat.div_eq_sub_div hR0 c_43]; omega) (by omega) _ _ I ls (lv_sub hl [0, 1, 2, 3, 4] rfl)
        exact lp_35 _ 0 (((La' x) - (Fi' x)) + 1) (by omega) (by omega) (Nat.lt_succ_self _) _ _ I ls (lv_sub hl [0, 1, 2, 3, 4] rfl)
  exact lp_8 _ 0 0 (by omega) (by omega) rfl (Nat.lt_succ_self _) _ _ I ls (lv_sub hl [0, 1, 2] rfl)
set_option maxHeartbeats 4000000 in
set_option maxRecDepth 20000 in
theorem c_X_common (l : Launch) (dC : Nat → ClassId) (dI : Nat → Nat → Nat) (cA : ClassId) (a : Nat → Nat) (T Af Fi La St : Nat → Nat) (n rc cu : Nat) (p0 p1 : Int32) (hn : n ≤ 48) (hT : ∀ i, T i ≤ 3) (hcu : cu = 0 ∨ (cu = 1 ∧ rf_all T n rc Fi La St)) : X_Mi l dC dI cA a y_X_common b_X_common 3 (some .int) (rmL 1) [.int (p0), .int (p1)] (T, Af, Fi, La, St, n, rc, cu) (fun r u => rf_aCom T n p0 p1 r ∧ X_ok T n u) := by
  refine X_meti (by decide) rfl (Nat.le_of_ble_eq_true rfl) ?_
  intro zp ze zs zm za zb zt zc A Q S I hret ls hl
  have hl : lv_has ls 3 [(0, .ref (a 0)), (1, .int (p0)), (2, .int (p1))] := hl
  have hx := S.1
  have hb := S.2.1
  refine lv_aload_n (pc := 0) hx hb d_X_common_0 rfl (lv_at hl 0 rfl) ?_
  refine lv_iload_n (pc := 1) hx hb d_X_common_1 rfl (lv_at hl 1 rfl) ?_
  refine X_calli (pc := 2) (rest := []) [.int (p0)] S (c_X_isPlace l dC dI cA a T Af Fi La St n rc cu p0 (by omega)) k_X_X_isPlace e_X_isPlace rfl rfl ⟨Nat.le_of_ble_eq_true rfl, Nat.le_of_ble_eq_true rfl⟩ I rfl hl.1 rfl (Nat.le_of_ble_eq_true rfl) d_X_common_2 (fun r u H locs hw I => ?_)
  obtain ⟨z, rfl, hz, ez, rfl⟩ := hw
  refine nr_if_eq (pc := 5) (tgt := 16) hx hb (by omega) d_X_common_5 (by decide) (fun c_5 => ?_) (fun c_5 => ?_)
  · refine lv_iconst (pc := 16) (v := -1) hx hb d_X_common_16 (by decide) ?_
    exact hret _ _ _ _ _ _ I d_X_common_17 ⟨Or.inl ⟨fun w => ez.mpr w.1 c_5, rfl⟩, ⟨Af, Fi, La, St, rc, cu, rfl, hcu⟩⟩
  · have hpi := ez.mp c_5
    obtain ⟨i, hi0, rfl⟩ := ri_nat hpi.1
    have hi := hpi.2
    rw [ri_toI hi0] at hi
    refine lv_aload_n (pc := 8) hx hb d_X_common_8 rfl (lv_at hl 0 rfl) ?_
    refine lv_iload_n (pc := 9) hx hb d_X_common_9 rfl (lv_at hl 2 rfl) ?_
    refine X_calli (pc := 10) (rest := []) [.int (p1)] S (c_X_isPlace l dC dI cA a T Af Fi La St n rc cu p1 (by omega)) k_X_X_isPlace e_X_isPlace rfl rfl ⟨Nat.le_of_ble_eq_true rfl, Nat.le_of_ble_eq_true rfl⟩ I rfl hl.1 rfl (Nat.le_of_ble_eq_true rfl) d_X_common_10 (fun r u H locs hw I => ?_)
    obtain ⟨y, rfl, hy, ey, rfl⟩ := hw
    refine nr_if_ne (pc := 13) (tgt := 18) hx hb (by omega) d_X_common_13 (by decide) (fun c_13 => ?_) (fun c_13 => ?_)
    · have hpj := ey.mp c_13
      obtain ⟨j, hj0, rfl⟩ := ri_nat hpj.1
      have hj := hpj.2
      rw [ri_toI hj0] at hj
      refine lv_aload_n (pc := 18) hx hb d_X_common_18 rfl (lv_at hl 0 rfl) ?_
      refine lv_iload_n (pc := 19) hx hb d_X_common_19 rfl (lv_at hl 1 rfl) ?_
      refine lv_iload_n (pc := 20) hx hb d_X_common_20 rfl (lv_at hl 2 rfl) ?_
      refine X_calli (pc := 21) (rest := []) [.int (nI (i)), .int (nI (j))] S (c_X_forward l dC dI cA a T Af Fi La St n rc cu i j hn hT (by omega) (by omega)) k_X_X_forward e_X_forward rfl rfl ⟨Nat.le_of_ble_eq_true rfl, Nat.le_of_ble_eq_true rfl⟩ I rfl hl.1 rfl (Nat.le_of_ble_eq_true rfl) d_X_common_21 (fun r u H locs hw I => ?_)
      obtain ⟨k, rfl, hF, rfl⟩ := hw
      exact hret _ _ _ _ _ _ I d_X_common_24 ⟨Or.inr ⟨i, j, k, rfl, by omega, rfl, by omega, hF, rfl⟩, ⟨Af, Fi, La, St, rc, cu, rfl, hcu⟩⟩
    · refine lv_iconst (pc := 16) (v := -1) hx hb d_X_common_16 (by decide) ?_
      exact hret _ _ _ _ _ _ I d_X_common_17 ⟨Or.inl ⟨fun w => ey.mpr w.2 c_13, rfl⟩, ⟨Af, Fi, La, St, rc, cu, rfl, hcu⟩⟩
set_option maxHeartbeats 4000000 in
set_option maxRecDepth 20000 in
theorem c_X_nextSmaller (l : Launch) (dC : Nat → ClassId) (dI : Nat → Nat → Nat) (cA : ClassId) (a : Nat → Nat) (T Af Fi La St : Nat → Nat) (n rc cu : Nat) (p0 : Int32) (hn : n ≤ 48) (hT : ∀ i, T i ≤ 3) (hcu : cu = 0 ∨ (cu = 1 ∧ rf_all T n rc Fi La St)) : X_Mi l dC dI cA a y_X_nextSmaller b_X_nextSmaller 2 (some .int) (rmL 3) [.int (p0)] (T, Af, Fi, La, St, n, rc, cu) (fun r u => rf_aNS T n p0 r ∧ X_ok T n u) := by
  refine X_meti (by decide) rfl (Nat.le_of_ble_eq_true rfl) ?_
  intro zp ze zs zm za zb zt zc A Q S I hret ls hl
  have hl : lv_has ls 2 [(0, .ref (a 0)), (1, .int (p0))] := hl
  have hx := S.1
  have hb := S.2.1
  refine lv_aload_n (pc := 0) hx hb d_X_nextSmaller_0 rfl (lv_at hl 0 rfl) ?_
  refine lv_iload_n (pc := 1) hx hb d_X_nextSmaller_1 rfl (lv_at hl 1 rfl) ?_
  refine X_calli (pc := 2) (rest := []) [.int (p0)] S (c_X_isPlace l dC dI cA a T Af Fi La St n rc cu p0 (by omega)) k_X_X_isPlace e_X_isPlace rfl rfl ⟨Nat.le_of_ble_eq_true rfl, Nat.le_of_ble_eq_true rfl⟩ I rfl hl.1 rfl (Nat.le_of_ble_eq_true rfl) d_X_nextSmaller_2 (fun r u H locs hw I => ?_)
  obtain ⟨z, rfl, hz, ez, rfl⟩ := hw
  refine nr_if_ne (pc := 5) (tgt := 10) hx hb (by omega) d_X_nextSmaller_5 (by decide) (fun c_5 => ?_) (fun c_5 => ?_)
  · have hpi := ez.mp c_5
    obtain ⟨i, hi0, rfl⟩ := ri_nat hpi.1
    have hi := hpi.2
    rw [ri_toI hi0] at hi
    refine lv_aload_n (pc := 10) hx hb d_X_nextSmaller_10 rfl (lv_at hl 0 rfl) ?_
    refine nr_iconst (pc := 11) hx hb 1 rfl d_X_nextSmaller_11 ?_
    refine X_callv (pc := 12) (rest := []) [.int (nI (1))] S (c_X_findEndings l dC dI cA a T Af Fi La St n rc cu 1 hn hT (by omega)) k_X_X_findEndings e_X_findEndings rfl rfl ⟨Nat.le_of_ble_eq_true rfl, Nat.le_of_ble_eq_true rfl⟩ I rfl hl.1 rfl (Nat.le_of_ble_eq_true rfl) d_X_nextSmaller_12 (fun u H locs hw I => ?_)
    obtain ⟨Af2, hA, rfl⟩ := hw
    refine lv_aload_n (pc := 15) hx hb d_X_nextSmaller_15 rfl (lv_at hl 0 rfl) ?_
    refine X_get_after (pc := 16) S I d_X_nextSmaller_16 ?_
    refine lv_iload_n (pc := 19) hx hb d_X_nextSmaller_19 rfl (lv_at hl 1 rfl) ?_
    refine X_ald2 (pc := 20) S I (by omega) d_X_nextSmaller_20 ?_
    exact hret _ _ _ _ _ _ I d_X_nextSmaller_21 ⟨Or.inr ⟨i, _, rfl, by omega, hA i (by omega), rfl⟩, ⟨Af2, Fi, La, St, rc, cu, rfl, hcu⟩⟩
  · refine lv_iconst (pc := 8) (v := -1) hx hb d_X_nextSmaller_8 (by decide) ?_
    exact hret _ _ _ _ _ _ I d_X_nextSmaller_9 ⟨Or.inl ⟨fun w => ez.mpr w c_5, rfl⟩, ⟨Af, Fi, La, St, rc, cu, rfl, hcu⟩⟩
end
section
set_option maxHeartbeats 4000000 in
set_option maxRecDepth 20000 in
theorem c_M_bad (l : Launch) (dC : Nat → ClassId) (dI : Nat → Nat → Nat) (cA : ClassId) (a : Nat → Nat) (T Cp Fi La Le : Nat → Nat) (n fo : Nat) (p0 : Int32) (hn : n ≤ 48) : M_Mi l dC dI cA a y_M_bad b_M_bad 2 (some .boolean) (rmL 0) [.int (p0)] (T, Cp, Fi, La, Le, n, fo) (fun r u => ∃ b : Nat, r = nI b ∧ b ≤ 1 ∧ (b = 0 ↔ 0 ≤ p0.toInt ∧ p0.toInt < (n : Int)) ∧ u = (T, Cp, Fi, La, Le, n, fo)) := by
  refine M_metz (by decide) rfl (Nat.le_of_ble_eq_true rfl) ?_
  intro zp ze zs zm za zb zt zc A Q S I hret ls hl
  have hl : lv_has ls 2 [(0, .ref (a 0)), (1, .int (p0))] := hl
  have hx := S.1
  have hb := S.2.1
  refine lv_iload_n (pc := 0) hx hb d_M_bad_0 rfl (lv_at hl 1 rfl) ?_
  refine ri_if_lt (pc := 1) (tgt := 18) hx hb d_M_bad_1 (by decide) (fun c_1 => ?_) (fun c_1 => ?_)
  · refine nr_iconst (pc := 18) hx hb 1 rfl d_M_bad_18 ?_
    refine lv_goto (pc := 19) (tgt := 23) hx hb d_M_bad_19 (by decide) ?_
    exact hret (1) _ _ _ _ _ I d_M_bad_23 (by omega) ⟨_, rfl, by omega, by omega, rfl⟩
  · refine lv_iload_n (pc := 4) hx hb d_M_bad_4 rfl (lv_at hl 1 rfl) ?_
    refine lv_aload_n (pc := 5) hx hb d_M_bad_5 rfl (lv_at hl 0 rfl) ?_
    refine M_get_length (pc := 6) S I d_M_bad_6 ?_
    refine ri_icmp_ge (pc := 9) (tgt := 18) hx hb (by omega) d_M_bad_9 (by decide) (fun c_9 => ?_) (fun c_9 => ?_)
    · refine nr_iconst (pc := 18) hx hb 1 rfl d_M_bad_18 ?_
      refine lv_goto (pc := 19) (tgt := 23) hx hb d_M_bad_19 (by decide) ?_
      exact hret (1) _ _ _ _ _ I d_M_bad_23 (by omega) ⟨_, rfl, by omega, by omega, rfl⟩
    · refine lv_iload_n (pc := 12) hx hb d_M_bad_12 rfl (lv_at hl 1 rfl) ?_
      refine nr_bipush (pc := 13) hx hb 48 (by decide) d_M_bad_13 ?_
      refine ri_icmp_lt (pc := 15) (tgt := 22) hx hb (by decide) d_M_bad_15 (by decide) (fun c_15 => ?_) (fun c_15 => ?_)
      · refine nr_iconst (pc := 22) hx hb 0 rfl d_M_bad_22 ?_
        exact hret (0) _ _ _ _ _ I d_M_bad_23 (by omega) ⟨_, rfl, by omega, by omega, rfl⟩
      · refine nr_iconst (pc := 18) hx hb 1 rfl d_M_bad_18 ?_
        refine lv_goto (pc := 19) (tgt := 23) hx hb d_M_bad_19 (by decide) ?_
        exact hret (1) _ _ _ _ _ I d_M_bad_23 (by omega) ⟨_, rfl, by omega, by omega, rfl⟩
set_option maxHeartbeats 4000000 in
set_option maxRecDepth 20000 in
theorem c_M_push (l : Launch) (dC : Nat → ClassId) (dI : Nat → Nat → Nat) (cA : ClassId) (a : Nat → Nat) (T Cp Fi La Le : Nat → Nat) (n fo : Nat) (p0 : Int32) (hn : n ≤ 48) (hT : ∀ i, T i ≤ 3) : M_Mi l dC dI cA a y_M_push b_M_push 3 (some .int) (rmL 0) [.int (p0)] (T, Cp, Fi, La, Le, n, fo) (fun r u => ∃ (T' : Nat → Nat) (n' : Nat), rf_aPush T n p0 r T' n' ∧ M_ok T' n' u) := by
  refine M_meti (by decide) rfl (Nat.le_of_ble_eq_true rfl) ?_
  intro zp ze zs zm za zb zt zc A Q S I hret ls hl
  have hl : lv_has ls 3 [(0, .ref (a 0)), (1, .int (p0))] := hl
  have hx := S.1
  have hb := S.2.1
  refine lv_iload_n (pc := 0) hx hb d_M_push_0 rfl (lv_at hl 1 rfl) ?_
  refine ri_if_lt (pc := 1) (tgt := 9) hx hb d_M_push_1 (by decide) (fun c_1 => ?_) (fun c_1 => ?_)
  · refine lv_iconst (pc := 9) (v := -1) hx hb d_M_push_9 (by decide) ?_
    exact hret _ _ _ _ _ _ I d_M_push_10 ⟨T, n, Or.inl ⟨by omega, rfl, rfl, rfl⟩, ⟨Cp, Fi, La, Le, fo, rfl⟩⟩
  · refine lv_iload_n (pc := 4) hx hb d_M_push_4 rfl (lv_at hl 1 rfl) ?_
    refine nr_iconst (pc := 5) hx hb 3 rfl d_M_push_5 ?_
    refine ri_icmp_le (pc := 6) (tgt := 11) hx hb (by decide) d_M_push_6 (by decide) (fun c_6 => ?_) (fun c_6 => ?_)
    · obtain ⟨v, hv0, rfl⟩ := ri_nat (x := p0) c_1
      rw [ri_toI hv0] at c_6
      refine lv_aload_n (pc := 11) hx hb d_M_push_11 rfl (lv_at hl 0 rfl) ?_
      refine M_get_length (pc := 12) S I d_M_push_12 ?_
      refine lv_istore_n (pc := 15) (lv' := [(2, .int (nI (n))), (0, .ref (a 0)), (1, .int (nI (v)))]) hx hb d_M_push_15 rfl hl (by decide) rfl (fun ls hl => ?_)
      refine lv_iload_n (pc := 16) hx hb d_M_push_16 rfl (lv_at hl 0 rfl) ?_
      refine nr_bipush (pc := 17) hx hb 48 (by decide) d_M_push_17 ?_
      refine nr_icmp_lt (pc := 19) (tgt := 25) hx hb (by omega) (by decide) d_M_push_19 (by decide) (fun c_19 => ?_) (fun c_19 => ?_)
      · refine lv_aload_n (pc := 25) hx hb d_M_push_25 rfl (lv_at hl 1 rfl) ?_
        refine M_get_text (pc := 26) S I d_M_push_26 ?_
        refine lv_iload_n (pc := 29) hx hb d_M_push_29 rfl (lv_at hl 0 rfl) ?_
        refine lv_iload_n (pc := 30) hx hb d_M_push_30 rfl (lv_at hl 2 rfl) ?_
        refine M_ast1 (pc := 31) S I (by omega) d_M_push_31 (fun H locs I => ?_)
        refine lv_aload_n (pc := 32) hx hb d_M_push_32 rfl (lv_at hl 1 rfl) ?_
        refine lv_iload_n (pc := 33) hx hb d_M_push_33 rfl (lv_at hl 0 rfl) ?_
        refine nr_iconst (pc := 34) hx hb 1 rfl d_M_push_34 ?_
        refine nr_iadd (pc := 35) hx hb d_M_push_35 ?_
        refine M_put_length (pc := 36) S I d_M_push_36 (fun H locs I => ?_)
        refine lv_aload_n (pc := 39) hx hb d_M_push_39 rfl (lv_at hl 1 rfl) ?_
        refine M_get_length (pc := 40) S I d_M_push_40 ?_
        exact hret _ _ _ _ _ _ I d_M_push_43 ⟨_, _, Or.inr (Or.inr ⟨v, rfl, by omega, by omega, rfl, rfl, rfl⟩), ⟨Cp, Fi, La, Le, fo, rfl⟩⟩
      · refine lv_bipush (pc := 22) (v := -2) hx hb d_M_push_22 (by decide) ?_
        exact hret _ _ _ _ _ _ I d_M_push_24 ⟨T, n, Or.inr (Or.inl ⟨by rw [ri_toI hv0]; omega, by omega, rfl, rfl, rfl⟩), ⟨Cp, Fi, La, Le, fo, rfl⟩⟩
    · refine lv_iconst (pc := 9) (v := -1) hx hb d_M_push_9 (by decide) ?_
      exact hret _ _ _ _ _ _ I d_M_push_10 ⟨T, n, Or.inl ⟨by omega, rfl, rfl, rfl⟩, ⟨Cp, Fi, La, Le, fo, rfl⟩⟩
set_option maxHeartbeats 4000000 in
set_option maxRecDepth 20000 in
theorem c_M_pop (l : Launch) (dC : Nat → ClassId) (dI : Nat → Nat → Nat) (cA : ClassId) (a : Nat → Nat) (T Cp Fi La Le : Nat → Nat) (n fo : Nat) (p0 : Int32) (hn : n ≤ 48) (hT : ∀ i, T i ≤ 3) : M_Mi l dC dI cA a y_M_pop b_M_pop 2 (some .int) (rmL 0) [.int (p0)] (T, Cp, Fi, La, Le, n, fo) (fun r u => ∃ (T' : Nat → Nat) (n' : Nat), rf_aPop T n p0 r T' n' ∧ M_ok T' n' u) := by
  refine M_meti (by decide) rfl (Nat.le_of_ble_eq_true rfl) ?_
  intro zp ze zs zm za zb zt zc A Q S I hret ls hl
  have hl : lv_has ls 2 [(0, .ref (a 0)), (1, .int (p0))] := hl
  have hx := S.1
  have hb := S.2.1
  refine lv_iload_n (pc := 0) hx hb d_M_pop_0 rfl (lv_at hl 1 rfl) ?_
  refine ri_if_lt (pc := 1) (tgt := 12) hx hb d_M_pop_1 (by decide) (fun c_1 => ?_) (fun c_1 => ?_)
  · refine lv_iconst (pc := 12) (v := -1) hx hb d_M_pop_12 (by decide) ?_
    exact hret _ _ _ _ _ _ I d_M_pop_13 ⟨T, n, Or.inl ⟨by omega, rfl, rfl, rfl⟩, ⟨Cp, Fi, La, Le, fo, rfl⟩⟩
  · refine lv_iload_n (pc := 4) hx hb d_M_pop_4 rfl (lv_at hl 1 rfl) ?_
    refine lv_aload_n (pc := 5) hx hb d_M_pop_5 rfl (lv_at hl 0 rfl) ?_
    refine M_get_length (pc := 6) S I d_M_pop_6 ?_
    refine ri_icmp_le (pc := 9) (tgt := 14) hx hb (by omega) d_M_pop_9 (by decide) (fun c_9 => ?_) (fun c_9 => ?_)
    · obtain ⟨v, hv0, rfl⟩ := ri_nat (x := p0) c_1
      rw [ri_toI hv0] at c_9
      refine lv_aload_n (pc := 14) hx hb d_M_pop_14 rfl (lv_at hl 0 rfl) ?_
      refine lv_dup (pc := 15) hx hb d_M_pop_15 rfl ?_
      refine M_get_length (pc := 16) S I d_M_pop_16 ?_
      refine lv_iload_n (pc := 19) hx hb d_M_pop_19 rfl (lv_at hl 1 rfl) ?_
      refine nr_isub (pc := 20) hx hb (by omega) d_M_pop_20 ?_
      refine M_put_length (pc := 21) S I d_M_pop_21 (fun H locs I => ?_)
      refine lv_aload_n (pc := 24) hx hb d_M_pop_24 rfl (lv_at hl 0 rfl) ?_
      refine M_get_length (pc := 25) S I d_M_pop_25 ?_
      exact hret _ _ _ _ _ _ I d_M_pop_28 ⟨_, _, Or.inr ⟨v, rfl, by omega, rfl, rfl, rfl⟩, ⟨Cp, Fi, La, Le, fo, rfl⟩⟩
    · refine lv_iconst (pc := 12) (v := -1) hx hb d_M_pop_12 (by decide) ?_
      exact hret _ _ _ _ _ _ I d_M_pop_13 ⟨T, n, Or.inl ⟨by omega, rfl, rfl, rfl⟩, ⟨Cp, Fi, La, Le, fo, rfl⟩⟩
set_option maxHeartbeats 4000000 in
set_option maxRecDepth 20000 in
theorem c_M_repeat (l : Launch) (dC : Nat → ClassId) (dI : Nat → Nat → Nat) (cA : ClassId) (a : Nat → Nat) (T Cp Fi La Le : Nat → Nat) (n fo : Nat) (p0 p1 : Int32) (hn : n ≤ 48) (hT : ∀ i, T i ≤ 3) : M_Mi l dC dI cA a y_M_repeat b_M_repeat 5 (some .int) (rmL 1) [.int (p0), .int (p1)] (T, Cp, Fi, La, Le, n, fo) (fun r u => ∃ (T' : Nat → Nat) (n' : Nat), rf_aRep T n p0 p1 r T' n' ∧ M_ok T' n' u) := by
  refine M_meti (by decide) rfl (Nat.le_of_ble_eq_true rfl) ?_
  intro zp ze zs zm za zb zt zc A Q S I hret ls hl
  have hl : lv_has ls 5 [(0, .ref (a 0)), (1, .int (p0)), (2, .int (p1))] := hl
  have hx := S.1
  have hb := S.2.1
  refine lv_aload_n (pc := 0) hx hb d_M_repeat_0 rfl (lv_at hl 0 rfl) ?_
  refine lv_iload_n (pc := 1) hx hb d_M_repeat_1 rfl (lv_at hl 1 rfl) ?_
  refine M_calli (pc := 2) (rest := []) [.int (p0)] S (c_M_bad l dC dI cA a T Cp Fi La Le n fo p0 hn) k_M_M_bad e_M_bad rfl rfl ⟨Nat.le_of_ble_eq_true rfl, Nat.le_of_ble_eq_true rfl⟩ I rfl hl.1 rfl (Nat.le_of_ble_eq_true rfl) d_M_repeat_2 (fun r u H locs hw I => ?_)
  obtain ⟨z, rfl, hz, ez, rfl⟩ := hw
  refine nr_if_eq (pc := 5) (tgt := 10) hx hb (by omega) d_M_repeat_5 (by decide) (fun c_5 => ?_) (fun c_5 => ?_)
  · have hpf := ez.mp c_5
    obtain ⟨f, hf0, rfl⟩ := ri_nat hpf.1
    have hf := hpf.2
    rw [ri_toI hf0] at hf
    refine lv_iload_n (pc := 10) hx hb d_M_repeat_10 rfl (lv_at hl 2 rfl) ?_
    refine nr_iconst (pc := 11) hx hb 1 rfl d_M_repeat_11 ?_
    refine ri_icmp_lt (pc := 12) (tgt := 21) hx hb (by decide) d_M_repeat_12 (by decide) (fun c_12 => ?_) (fun c_12 => ?_)
    · refine lv_bipush (pc := 21) (v := -2) hx hb d_M_repeat_21 (by decide) ?_
      exact hret _ _ _ _ _ _ I d_M_repeat_23 ⟨T, n, Or.inr (Or.inl ⟨(rf_pl_nI hf0).mpr (by omega), by omega, rfl, rfl, rfl⟩), ⟨Cp, Fi, La, Le, fo, rfl⟩⟩
    · refine lv_iload_n (pc := 15) hx hb d_M_repeat_15 rfl (lv_at hl 2 rfl) ?_
      refine nr_bipush (pc := 16) hx hb 48 (by decide) d_M_repeat_16 ?_
      refine ri_icmp_le (pc := 18) (tgt := 24) hx hb (by decide) d_M_repeat_18 (by decide) (fun c_18 => ?_) (fun c_18 => ?_)
      · obtain ⟨v, hv0, rfl⟩ := ri_nat (x := p1) (show 0 ≤ p1.toInt by omega)
        rw [ri_toI hv0] at c_12
        rw [ri_toI hv0] at c_18
        refine lv_aload_n (pc := 24) hx hb d_M_repeat_24 rfl (lv_at hl 0 rfl) ?_
        refine M_get_length (pc := 25) S I d_M_repeat_25 ?_
        refine lv_iload_n (pc := 28) hx hb d_M_repeat_28 rfl (lv_at hl 2 rfl) ?_
        refine nr_iadd (pc := 29) hx hb d_M_repeat_29 ?_
        refine nr_bipush (pc := 30) hx hb 48 (by decide) d_M_repeat_30 ?_
        refine nr_icmp_le (pc := 32) (tgt := 38) hx hb (by omega) (by decide) d_M_repeat_32 (by decide) (fun c_32 => ?_) (fun c_32 => ?_)
        · refine lv_aload_n (pc := 38) hx hb d_M_repeat_38 rfl (lv_at hl 0 rfl) ?_
          refine M_get_length (pc := 39) S I d_M_repeat_39 ?_
          refine lv_istore_n (pc := 42) (lv' := [(3, .int (nI (n))), (0, .ref (a 0)), (1, .int (nI (f))), (2, .int (nI (v)))]) hx hb d_M_repeat_42 rfl hl (by decide) rfl (fun ls hl => ?_)
          refine nr_iconst (pc := 43) hx hb 0 rfl d_M_repeat_43 ?_
          refine lv_istore (pc := 44) (lv' := [(4, .int (nI (0))), (3, .int (nI (n))), (0, .ref (a 0)), (1, .int (nI (f))), (2, .int (nI (v)))]) hx hb d_M_repeat_44 hl (by decide) rfl (fun ls hl => ?_)
          have lp_46 : ∀ (fu : Nat) (k : Nat), (k ≤ v) → v - k < fu → ∀ (H : Heap) (locs : List Loc), M_I dC dI cA a A zs zs.heap H locs (rf_cp T n f k, Cp, Fi, La, Le, n, fo) → ∀ ls : Array Slot, lv_has ls 5 [(4, .int (nI (k))), (3, .int (nI (n))), (0, .ref (a 0)), (1, .int (nI (f))), (2, .int (nI (v)))] → W zp l ze (rmL 1) zs zm za zb zt zc H locs 0 0 Q (F0 zm 46 ls []) := by
            intro fu
            induction fu with
            | zero =>
              intro k hkv hfu
              exact absurd hfu (Nat.not_lt_zero _)
            | succ fu ih_46 =>
              intro k hkv hfu H locs I ls hl
              refine lv_iload (pc := 46) hx hb d_M_repeat_46 (lv_at hl 0 rfl) ?_
              refine lv_iload_n (pc := 48) hx hb d_M_repeat_48 rfl (lv_at hl 4 rfl) ?_
              refine nr_icmp_ge (pc := 49) (tgt := 76) hx hb (by omega) (by omega) d_M_repeat_49 (by decide) (fun c_49 => ?_) (fun c_49 => ?_)
              · obtain rfl : v = k := by omega
                refine lv_aload_n (pc := 76) hx hb d_M_repeat_76 rfl (lv_at hl 2 rfl) ?_
                refine lv_iload_n (pc := 77) hx hb d_M_repeat_77 rfl (lv_at hl 1 rfl) ?_
                refine lv_iload_n (pc := 78) hx hb d_M_repeat_78 rfl (lv_at hl 4 rfl) ?_
                refine nr_iadd (pc := 79) hx hb d_M_repeat_79 ?_
                refine M_put_length (pc := 80) S I d_M_repeat_80 (fun H locs I => ?_)
                refine lv_aload_n (pc := 83) hx hb d_M_repeat_83 rfl (lv_at hl 2 rfl) ?_
                refine M_get_length (pc := 84) S I d_M_repeat_84 ?_
                exact hret _ _ _ _ _ _ I d_M_repeat_87 ⟨_, _, Or.inr (Or.inr (Or.inr ⟨f, v, rfl, by omega, rfl, by omega, by omega, rfl, rfl, rfl⟩)), ⟨Cp, Fi, La, Le, fo, rfl⟩⟩
              · refine lv_aload_n (pc := 52) hx hb d_M_repeat_52 rfl (lv_at hl 2 rfl) ?_
                refine M_get_text (pc := 53) S I d_M_repeat_53 ?_
                refine lv_iload_n (pc := 56) hx hb d_M_repeat_56 rfl (lv_at hl 1 rfl) ?_
                refine lv_iload (pc := 57) hx hb d_M_repeat_57 (lv_at hl 0 rfl) ?_
                refine nr_iadd (pc := 59) hx hb d_M_repeat_59 ?_
                refine lv_aload_n (pc := 60) hx hb d_M_repeat_60 rfl (lv_at hl 2 rfl) ?_
                refine M_get_text (pc := 61) S I d_M_repeat_61 ?_
                refine lv_iload_n (pc := 64) hx hb d_M_repeat_64 rfl (lv_at hl 3 rfl) ?_
                refine lv_iload (pc := 65) hx hb d_M_repeat_65 (lv_at hl 0 rfl) ?_
                refine nr_iadd (pc := 67) hx hb d_M_repeat_67 ?_
                refine M_ald1 (pc := 68) S I (by omega) d_M_repeat_68 ?_
                refine M_ast1 (pc := 69) S I (by omega) d_M_repeat_69 (fun H locs I => ?_)
                refine nr_iinc (pc := 70) (lv' := [(4, .int (nI (k + 1))), (3, .int (nI (n))), (0, .ref (a 0)), (1, .int (nI (f))), (2, .int (nI (v)))]) hx hb d_M_repeat_70 hl (d := 1) rfl (k := 0) rfl (by decide) rfl (fun ls hl => ?_)
                refine lv_goto (pc := 73) (tgt := 46) hx hb d_M_repeat_73 (by decide) ?_
                exact ih_46 (k + 1) (by omega) (by omega) _ _ I ls (lv_sub hl [0, 1, 2, 3, 4] rfl)
          exact lp_46 _ 0 (by omega) (Nat.lt_succ_self _) _ _ I ls (lv_sub hl [0, 1, 2, 3, 4] rfl)
        · refine lv_bipush (pc := 35) (v := -3) hx hb d_M_repeat_35 (by decide) ?_
          exact hret _ _ _ _ _ _ I d_M_repeat_37 ⟨T, n, Or.inr (Or.inr (Or.inl ⟨(rf_pl_nI hf0).mpr (by omega), by rw [ri_toI hv0]; omega, by rw [ri_toI hv0]; omega, rfl, rfl, rfl⟩)), ⟨Cp, Fi, La, Le, fo, rfl⟩⟩
      · refine lv_bipush (pc := 21) (v := -2) hx hb d_M_repeat_21 (by decide) ?_
        exact hret _ _ _ _ _ _ I d_M_repeat_23 ⟨T, n, Or.inr (Or.inl ⟨(rf_pl_nI hf0).mpr (by omega), by omega, rfl, rfl, rfl⟩), ⟨Cp, Fi, La, Le, fo, rfl⟩⟩
  · refine lv_iconst (pc := 8) (v := -1) hx hb d_M_repeat_8 (by decide) ?_
    exact hret _ _ _ _ _ _ I d_M_repeat_9 ⟨T, n, Or.inl ⟨fun w => c_5 (ez.mpr w), rfl, rfl, rfl⟩, ⟨Cp, Fi, La, Le, fo, rfl⟩⟩
set_option maxHeartbeats 4000000 in
set_option maxRecDepth 20000 in
theorem c_M_set (l : Launch) (dC : Nat → ClassId) (dI : Nat → Nat → Nat) (cA : ClassId) (a : Nat → Nat) (T Cp Fi La Le : Nat → Nat) (n fo : Nat) (p0 p1 : Int32) (hn : n ≤ 48) (hT : ∀ i, T i ≤ 3) : M_Mi l dC dI cA a y_M_set b_M_set 4 (some .int) (rmL 1) [.int (p0), .int (p1)] (T, Cp, Fi, La, Le, n, fo) (fun r u => ∃ (T' : Nat → Nat) (n' : Nat), rf_aSet T n p0 p1 r T' n' ∧ M_ok T' n' u) := by
  refine M_meti (by decide) rfl (Nat.le_of_ble_eq_true rfl) ?_
  intro zp ze zs zm za zb zt zc A Q S I hret ls hl
  have hl : lv_has ls 4 [(0, .ref (a 0)), (1, .int (p0)), (2, .int (p1))] := hl
  have hx := S.1
  have hb := S.2.1
  refine lv_aload_n (pc := 0) hx hb d_M_set_0 rfl (lv_at hl 0 rfl) ?_
  refine lv_iload_n (pc := 1) hx hb d_M_set_1 rfl (lv_at hl 1 rfl) ?_
  refine M_calli (pc := 2) (rest := []) [.int (p0)] S (c_M_bad l dC dI cA a T Cp Fi La Le n fo p0 hn) k_M_M_bad e_M_bad rfl rfl ⟨Nat.le_of_ble_eq_true rfl, Nat.le_of_ble_eq_true rfl⟩ I rfl hl.1 rfl (Nat.le_of_ble_eq_true rfl) d_M_set_2 (fun r u H locs hw I => ?_)
  obtain ⟨z, rfl, hz, ez, rfl⟩ := hw
  refine nr_if_eq (pc := 5) (tgt := 10) hx hb (by omega) d_M_set_5 (by decide) (fun c_5 => ?_) (fun c_5 => ?_)
  · have hpf := ez.mp c_5
    obtain ⟨f, hf0, rfl⟩ := ri_nat hpf.1
    have hf := hpf.2
    rw [ri_toI hf0] at hf
    refine lv_iload_n (pc := 10) hx hb d_M_set_10 rfl (lv_at hl 2 rfl) ?_
    refine ri_if_lt (pc := 11) (tgt := 19) hx hb d_M_set_11 (by decide) (fun c_11 => ?_) (fun c_11 => ?_)
    · refine lv_bipush (pc := 19) (v := -2) hx hb d_M_set_19 (by decide) ?_
      exact hret _ _ _ _ _ _ I d_M_set_21 ⟨T, n, Or.inr (Or.inl ⟨(rf_pl_nI hf0).mpr (by omega), by omega, rfl, rfl, rfl⟩), ⟨Cp, Fi, La, Le, fo, rfl⟩⟩
    · refine lv_iload_n (pc := 14) hx hb d_M_set_14 rfl (lv_at hl 2 rfl) ?_
      refine nr_iconst (pc := 15) hx hb 3 rfl d_M_set_15 ?_
      refine ri_icmp_le (pc := 16) (tgt := 22) hx hb (by decide) d_M_set_16 (by decide) (fun c_16 => ?_) (fun c_16 => ?_)
      · obtain ⟨v, hv0, rfl⟩ := ri_nat (x := p1) c_11
        rw [ri_toI hv0] at c_16
        refine lv_aload_n (pc := 22) hx hb d_M_set_22 rfl (lv_at hl 0 rfl) ?_
        refine M_get_text (pc := 23) S I d_M_set_23 ?_
        refine lv_iload_n (pc := 26) hx hb d_M_set_26 rfl (lv_at hl 1 rfl) ?_
        refine M_ald1 (pc := 27) S I (by omega) d_M_set_27 ?_
        refine lv_istore_n (pc := 28) (lv' := [(3, .int (nI (T f))), (0, .ref (a 0)), (1, .int (nI (f))), (2, .int (nI (v)))]) hx hb d_M_set_28 rfl hl (by decide) rfl (fun ls hl => ?_)
        refine lv_aload_n (pc := 29) hx hb d_M_set_29 rfl (lv_at hl 1 rfl) ?_
        refine M_get_text (pc := 30) S I d_M_set_30 ?_
        refine lv_iload_n (pc := 33) hx hb d_M_set_33 rfl (lv_at hl 2 rfl) ?_
        refine lv_iload_n (pc := 34) hx hb d_M_set_34 rfl (lv_at hl 3 rfl) ?_
        refine M_ast1 (pc := 35) S I (by omega) d_M_set_35 (fun H locs I => ?_)
        refine lv_iload_n (pc := 36) hx hb d_M_set_36 rfl (lv_at hl 0 rfl) ?_
        exact hret _ _ _ _ _ _ I d_M_set_37 ⟨_, _, Or.inr (Or.inr ⟨f, v, rfl, by omega, rfl, by omega, rfl, rfl, rfl⟩), ⟨Cp, Fi, La, Le, fo, rfl⟩⟩
      · refine lv_bipush (pc := 19) (v := -2) hx hb d_M_set_19 (by decide) ?_
        exact hret _ _ _ _ _ _ I d_M_set_21 ⟨T, n, Or.inr (Or.inl ⟨(rf_pl_nI hf0).mpr (by omega), by omega, rfl, rfl, rfl⟩), ⟨Cp, Fi, La, Le, fo, rfl⟩⟩
  · refine lv_iconst (pc := 8) (v := -1) hx hb d_M_set_8 (by decide) ?_
    exact hret _ _ _ _ _ _ I d_M_set_9 ⟨T, n, Or.inl ⟨fun w => c_5 (ez.mpr w), rfl, rfl, rfl⟩, ⟨Cp, Fi, La, Le, fo, rfl⟩⟩
set_option maxHeartbeats 4000000 in
set_option maxRecDepth 20000 in
theorem c_M_reverse (l : Launch) (dC : Nat → ClassId) (dI : Nat → Nat → Nat) (cA : ClassId) (a : Nat → Nat) (T Cp Fi La Le : Nat → Nat) (n fo : Nat) (hn : n ≤ 48) (hT : ∀ i, T i ≤ 3) : M_Mi l dC dI cA a y_M_reverse b_M_reverse 2 (some .int) (rmL 0) [] (T, Cp, Fi, La, Le, n, fo) (fun r u => ∃ (T' : Nat → Nat) (n' : Nat), rf_aRev T n r T' n' ∧ M_ok T' n' u) := by
  refine M_meti (by decide) rfl (Nat.le_of_ble_eq_true rfl) ?_
  intro zp ze zs zm za zb zt zc A Q S I hret ls hl
  have hl : lv_has ls 2 [(0, .ref (a 0))] := hl
  have hx := S.1
  have hb := S.2.1
  refine nr_iconst (pc := 0) hx hb 0 rfl d_M_reverse_0 ?_
  refine lv_istore_n (pc := 1) (lv' := [(1, .int (nI (0))), (0, .ref (a 0))]) hx hb d_M_reverse_1 rfl hl (by decide) rfl (fun ls hl => ?_)
  have lp_2 : ∀ (fu : Nat) (k : Nat), (k ≤ 48) → 48 - k < fu → ∀ (H : Heap) (locs : List Loc), M_I dC dI cA a A zs zs.heap H locs (T, rf_c1 Cp T k, Fi, La, Le, n, fo) → ∀ ls : Array Slot, lv_has ls 2 [(1, .int (nI (k))), (0, .ref (a 0))] → W zp l ze (rmL 0) zs zm za zb zt zc H locs 0 0 Q (F0 zm 2 ls []) := by
    intro fu
    induction fu with
    | zero =>
      intro k hk hfu
      exact absurd hfu (Nat.not_lt_zero _)
    | succ fu ih_2 =>
      intro k hk hfu H locs I ls hl
      refine lv_iload_n (pc := 2) hx hb d_M_reverse_2 rfl (lv_at hl 0 rfl) ?_
      refine nr_bipush (pc := 3) hx hb 48 (by decide) d_M_reverse_3 ?_
      refine nr_icmp_ge (pc := 5) (tgt := 26) hx hb (by omega) (by decide) d_M_reverse_5 (by decide) (fun c_5 => ?_) (fun c_5 => ?_)
      · obtain rfl : k = 48 := by omega
        refine nr_iconst (pc := 26) hx hb 0 rfl d_M_reverse_26 ?_
        refine lv_istore_n (pc := 27) (lv' := [(1, .int (nI (0))), (0, .ref (a 0))]) hx hb d_M_reverse_27 rfl hl (by decide) rfl (fun ls hl => ?_)
        have lp_28 : ∀ (fu : Nat) (k : Nat), (k ≤ n) → n - k < fu → ∀ (H : Heap) (locs : List Loc), M_I dC dI cA a A zs zs.heap H locs (rf_c2 T n k, rf_c1 Cp T 48, Fi, La, Le, n, fo) → ∀ ls : Array Slot, lv_has ls 2 [(1, .int (nI (k))), (0, .ref (a 0))] → W zp l ze (rmL 0) zs zm za zb zt zc H locs 0 0 Q (F0 zm 28 ls []) := by
          intro fu
          induction fu with
          | zero =>
            intro k hk hfu
            exact absurd hfu (Nat.not_lt_zero _)
          | succ fu ih_28 =>
            intro k hk hfu H locs I ls hl
            refine lv_iload_n (pc := 28) hx hb d_M_reverse_28 rfl (lv_at hl 0 rfl) ?_
            refine lv_aload_n (pc := 29) hx hb d_M_reverse_29 rfl (lv_at hl 1 rfl) ?_
            refine M_get_length (pc := 30) S I d_M_reverse_30 ?_
            refine nr_icmp_ge (pc := 33) (tgt := 67) hx hb (by omega) (by omega) d_M_reverse_33 (by decide) (fun c_33 => ?_) (fun c_33 => ?_)
            · obtain rfl : n = k := by omega
              refine lv_aload_n (pc := 67) hx hb d_M_reverse_67 rfl (lv_at hl 1 rfl) ?_
              refine M_get_length (pc := 68) S I d_M_reverse_68 ?_
              exact hret _ _ _ _ _ _ I d_M_reverse_71 ⟨rf_rev T n, n, ⟨rfl, rfl, rfl⟩, ⟨rf_c1 Cp T 48, Fi, La, Le, fo, rfl⟩⟩
            · refine lv_iload_n (pc := 36) hx hb d_M_reverse_36 rfl (lv_at hl 0 rfl) ?_
              refine nr_bipush (pc := 37) hx hb 48 (by decide) d_M_reverse_37 ?_
              refine nr_icmp_ge (pc := 39) (tgt := 67) hx hb (by omega) (by decide) d_M_reverse_39 (by decide) (fun c_39 => ?_) (fun c_39 => ?_)
              · exact absurd c_39 (by omega)
              · refine lv_aload_n (pc := 42) hx hb d_M_reverse_42 rfl (lv_at hl 1 rfl) ?_
                refine M_get_text (pc := 43) S I d_M_reverse_43 ?_
                refine lv_iload_n (pc := 46) hx hb d_M_reverse_46 rfl (lv_at hl 0 rfl) ?_
                refine lv_aload_n (pc := 47) hx hb d_M_reverse_47 rfl (lv_at hl 1 rfl) ?_
                refine M_get_copy (pc := 48) S I d_M_reverse_48 ?_
                refine lv_aload_n (pc := 51) hx hb d_M_reverse_51 rfl (lv_at hl 1 rfl) ?_
                refine M_get_length (pc := 52) S I d_M_reverse_52 ?_
                refine nr_iconst (pc := 55) hx hb 1 rfl d_M_reverse_55 ?_
                refine nr_isub (pc := 56) hx hb (by omega) d_M_reverse_56 ?_
                refine lv_iload_n (pc := 57) hx hb d_M_reverse_57 rfl (lv_at hl 0 rfl) ?_
                refine nr_isub (pc := 58) hx hb (by omega) d_M_reverse_58 ?_
                refine M_ald2 (pc := 59) S I (by omega) d_M_reverse_59 ?_
                refine M_ast1 (pc := 60) S I (by omega) d_M_reverse_60 (fun H locs I => ?_)
                refine nr_iinc (pc := 61) (lv' := [(1, .int (nI (k + 1))), (0, .ref (a 0))]) hx hb d_M_reverse_61 hl (d := 1) rfl (k := 0) rfl (by decide) rfl (fun ls hl => ?_)
                refine lv_goto (pc := 64) (tgt := 28) hx hb d_M_reverse_64 (by decide) ?_
                rw [rf_c2_s c_33 hn] at I
                exact ih_28 (k + 1) (by omega) (by omega) _ _ I ls (lv_sub hl [0, 1] rfl)
        have I : M_I dC dI cA a A zs zs.heap H locs (rf_c2 T n 0, rf_c1 Cp T 48, Fi, La, Le, n, fo) := by rw [rf_c2_0]; exact I
        exact lp_28 _ 0 (by omega) (Nat.lt_succ_self _) _ _ I ls (lv_sub hl [0, 1] rfl)
      · refine lv_aload_n (pc := 8) hx hb d_M_reverse_8 rfl (lv_at hl 1 rfl) ?_
        refine M_get_copy (pc := 9) S I d_M_reverse_9 ?_
        refine lv_iload_n (pc := 12) hx hb d_M_reverse_12 rfl (lv_at hl 0 rfl) ?_
        refine lv_aload_n (pc := 13) hx hb d_M_reverse_13 rfl (lv_at hl 1 rfl) ?_
        refine M_get_text (pc := 14) S I d_M_reverse_14 ?_
        refine lv_iload_n (pc := 17) hx hb d_M_reverse_17 rfl (lv_at hl 0 rfl) ?_
        refine M_ald1 (pc := 18) S I (by omega) d_M_reverse_18 ?_
        refine M_ast2 (pc := 19) S I (by omega) d_M_reverse_19 (fun H locs I => ?_)
        refine nr_iinc (pc := 20) (lv' := [(1, .int (nI (k + 1))), (0, .ref (a 0))]) hx hb d_M_reverse_20 hl (d := 1) rfl (k := 0) rfl (by decide) rfl (fun ls hl => ?_)
        refine lv_goto (pc := 23) (tgt := 2) hx hb d_M_reverse_23 (by decide) ?_
        rw [rf_c1_s] at I
        exact ih_2 (k + 1) (by omega) (by omega) _ _ I ls (lv_sub hl [0, 1] rfl)
  rw [← rf_c1_0 Cp T] at I
  exact lp_2 _ 0 (by omega) (Nat.lt_succ_self _) _ _ I ls (lv_sub hl [0, 1] rfl)
set_option maxHeartbeats 4000000 in
set_option maxRecDepth 20000 in
theorem c_M_length (l : Launch) (dC : Nat → ClassId) (dI : Nat → Nat → Nat) (cA : ClassId) (a : Nat → Nat) (T Cp Fi La Le : Nat → Nat) (n fo : Nat)  : M_Mi l dC dI cA a y_M_length b_M_length 1 (some .int) (rmL 0) [] (T, Cp, Fi, La, Le, n, fo) (fun r u => rf_aLen n r ∧ M_ok T n u) := by
  refine M_meti (by decide) rfl (Nat.le_of_ble_eq_true rfl) ?_
  intro zp ze zs zm za zb zt zc A Q S I hret ls hl
  have hl : lv_has ls 1 [(0, .ref (a 0))] := hl
  have hx := S.1
  have hb := S.2.1
  refine lv_aload_n (pc := 0) hx hb d_M_length_0 rfl (lv_at hl 0 rfl) ?_
  refine M_get_length (pc := 1) S I d_M_length_1 ?_
  exact hret _ _ _ _ _ _ I d_M_length_4 ⟨rfl, ⟨Cp, Fi, La, Le, fo, rfl⟩⟩
set_option maxHeartbeats 4000000 in
set_option maxRecDepth 20000 in
theorem c_M_symbol (l : Launch) (dC : Nat → ClassId) (dI : Nat → Nat → Nat) (cA : ClassId) (a : Nat → Nat) (T Cp Fi La Le : Nat → Nat) (n fo : Nat) (p0 : Int32) (hn : n ≤ 48) (hT : ∀ i, T i ≤ 3) : M_Mi l dC dI cA a y_M_symbol b_M_symbol 2 (some .int) (rmL 1) [.int (p0)] (T, Cp, Fi, La, Le, n, fo) (fun r u => rf_aSym T n p0 r ∧ M_ok T n u) := by
  refine M_meti (by decide) rfl (Nat.le_of_ble_eq_true rfl) ?_
  intro zp ze zs zm za zb zt zc A Q S I hret ls hl
  have hl : lv_has ls 2 [(0, .ref (a 0)), (1, .int (p0))] := hl
  have hx := S.1
  have hb := S.2.1
  refine lv_aload_n (pc := 0) hx hb d_M_symbol_0 rfl (lv_at hl 0 rfl) ?_
  refine lv_iload_n (pc := 1) hx hb d_M_symbol_1 rfl (lv_at hl 1 rfl) ?_
  refine M_calli (pc := 2) (rest := []) [.int (p0)] S (c_M_bad l dC dI cA a T Cp Fi La Le n fo p0 hn) k_M_M_bad e_M_bad rfl rfl ⟨Nat.le_of_ble_eq_true rfl, Nat.le_of_ble_eq_true rfl⟩ I rfl hl.1 rfl (Nat.le_of_ble_eq_true rfl) d_M_symbol_2 (fun r u H locs hw I => ?_)
  obtain ⟨z, rfl, hz, ez, rfl⟩ := hw
  refine nr_if_eq (pc := 5) (tgt := 12) hx hb (by omega) d_M_symbol_5 (by decide) (fun c_5 => ?_) (fun c_5 => ?_)
  · have hpj := ez.mp c_5
    obtain ⟨j, hj0, rfl⟩ := ri_nat hpj.1
    have hj := hpj.2
    rw [ri_toI hj0] at hj
    refine lv_aload_n (pc := 12) hx hb d_M_symbol_12 rfl (lv_at hl 0 rfl) ?_
    refine M_get_text (pc := 13) S I d_M_symbol_13 ?_
    refine lv_iload_n (pc := 16) hx hb d_M_symbol_16 rfl (lv_at hl 1 rfl) ?_
    refine M_ald1 (pc := 17) S I (by omega) d_M_symbol_17 ?_
    exact hret _ _ _ _ _ _ I d_M_symbol_18 ⟨Or.inr ⟨j, rfl, by omega, rfl⟩, ⟨Cp, Fi, La, Le, fo, rfl⟩⟩
  · refine lv_iconst (pc := 8) (v := -1) hx hb d_M_symbol_8 (by decide) ?_
    refine lv_goto (pc := 9) (tgt := 18) hx hb d_M_symbol_9 (by decide) ?_
    exact hret _ _ _ _ _ _ I d_M_symbol_18 ⟨Or.inl ⟨fun w => c_5 (ez.mpr w), rfl⟩, ⟨Cp, Fi, La, Le, fo, rfl⟩⟩
set_option maxHeartbeats 4000000 in
set_option maxRecDepth 20000 in
theorem c_M_hasPeriod (l : Launch) (dC : Nat → ClassId) (dI : Nat → Nat → Nat) (cA : ClassId) (a : Nat → Nat) (T Cp Fi La Le : Nat → Nat) (n fo : Nat) (i j p : Nat) (hT : ∀ i, T i ≤ 3) (hij : i ≤ j) (hj : j < 48) (hp1 : 1 ≤ p) (hp : p ≤ 49) : M_Mi l dC dI cA a y_M_hasPeriod b_M_hasPeriod 5 (some .boolean) (rmL 0) [.int (nI (i)), .int (nI (j)), .int (nI (p))] (T, Cp, Fi, La, Le, n, fo) (fun r u => ∃ z : Nat, r = nI z ∧ z ≤ 1 ∧ (z ≠ 0 ↔ i + p ≤ j + 1 ∧ rf_per T i (j + 1) p) ∧ u = (T, Cp, Fi, La, Le, n, fo)) := by
  refine M_metz (by decide) rfl (Nat.le_of_ble_eq_true rfl) ?_
  intro zp ze zs zm za zb zt zc A Q S I hret ls hl
  have hl : lv_has ls 5 [(0, .ref (a 0)), (1, .int (nI (i))), (2, .int (nI (j))), (3, .int (nI (p)))] := hl
  have hx := S.1
  have hb := S.2.1
  refine lv_iload_n (pc := 0) hx hb d_M_hasPeriod_0 rfl (lv_at hl 3 rfl) ?_
  refine lv_iload_n (pc := 1) hx hb d_M_hasPeriod_1 rfl (lv_at hl 2 rfl) ?_
  refine lv_iload_n (pc := 2) hx hb d_M_hasPeriod_2 rfl (lv_at hl 1 rfl) ?_
  refine nr_isub (pc := 3) hx hb (by omega) d_M_hasPeriod_3 ?_
  refine nr_iconst (pc := 4) hx hb 1 rfl d_M_hasPeriod_4 ?_
  refine nr_iadd (pc := 5) hx hb d_M_hasPeriod_5 ?_
  refine nr_icmp_le (pc := 6) (tgt := 11) hx hb (by omega) (by omega) d_M_hasPeriod_6 (by decide) (fun c_6 => ?_) (fun c_6 => ?_)
  · refine lv_iload_n (pc := 11) hx hb d_M_hasPeriod_11 rfl (lv_at hl 1 rfl) ?_
    refine lv_istore (pc := 12) (lv' := [(4, .int (nI (i))), (0, .ref (a 0)), (1, .int (nI (i))), (2, .int (nI (j))), (3, .int (nI (p)))]) hx hb d_M_hasPeriod_12 hl (by decide) rfl (fun ls hl => ?_)
    have lp_14 : ∀ (fu : Nat) (k : Nat), (i ≤ k) → (k ≤ 48) → (∀ x, i ≤ x → x < k → T x = T (x + p)) → 48 - k < fu → ∀ (H : Heap) (locs : List Loc), M_I dC dI cA a A zs zs.heap H locs (T, Cp, Fi, La, Le, n, fo) → ∀ ls : Array Slot, lv_has ls 5 [(4, .int (nI (k))), (0, .ref (a 0)), (1, .int (nI (i))), (2, .int (nI (j))), (3, .int (nI (p)))] → W zp l ze (rmL 0) zs zm za zb zt zc H locs 0 0 Q (F0 zm 14 ls []) := by
      intro fu
      induction fu with
      | zero =>
        intro k hik hk48 hk hfu
        exact absurd hfu (Nat.not_lt_zero _)
      | succ fu ih_14 =>
        intro k hik hk48 hk hfu H locs I ls hl
        refine lv_iload (pc := 14) hx hb d_M_hasPeriod_14 (lv_at hl 0 rfl) ?_
        refine lv_iload_n (pc := 16) hx hb d_M_hasPeriod_16 rfl (lv_at hl 4 rfl) ?_
        refine nr_iadd (pc := 17) hx hb d_M_hasPeriod_17 ?_
        refine lv_iload_n (pc := 18) hx hb d_M_hasPeriod_18 rfl (lv_at hl 3 rfl) ?_
        refine nr_icmp_gt (pc := 19) (tgt := 58) hx hb (by omega) (by omega) d_M_hasPeriod_19 (by decide) (fun c_19 => ?_) (fun c_19 => ?_)
        · refine nr_iconst (pc := 58) hx hb 1 rfl d_M_hasPeriod_58 ?_
          exact hret (1) _ _ _ _ _ I d_M_hasPeriod_59 (by omega) ⟨_, rfl, by omega, ⟨fun _ => ⟨by omega, fun x h1 h2 => hk x h1 (by omega)⟩, fun _ => by omega⟩, rfl⟩
        · refine lv_iload (pc := 22) hx hb d_M_hasPeriod_22 (lv_at hl 0 rfl) ?_
          refine lv_iload_n (pc := 24) hx hb d_M_hasPeriod_24 rfl (lv_at hl 4 rfl) ?_
          refine nr_iadd (pc := 25) hx hb d_M_hasPeriod_25 ?_
          refine nr_bipush (pc := 26) hx hb 48 (by decide) d_M_hasPeriod_26 ?_
          refine nr_icmp_ge (pc := 28) (tgt := 58) hx hb (by omega) (by decide) d_M_hasPeriod_28 (by decide) (fun c_28 => ?_) (fun c_28 => ?_)
          · exact absurd c_28 (by omega)
          · refine lv_aload_n (pc := 31) hx hb d_M_hasPeriod_31 rfl (lv_at hl 1 rfl) ?_
            refine M_get_text (pc := 32) S I d_M_hasPeriod_32 ?_
            refine lv_iload (pc := 35) hx hb d_M_hasPeriod_35 (lv_at hl 0 rfl) ?_
            refine M_ald1 (pc := 37) S I (by omega) d_M_hasPeriod_37 ?_
            refine lv_aload_n (pc := 38) hx hb d_M_hasPeriod_38 rfl (lv_at hl 1 rfl) ?_
            refine M_get_text (pc := 39) S I d_M_hasPeriod_39 ?_
            refine lv_iload (pc := 42) hx hb d_M_hasPeriod_42 (lv_at hl 0 rfl) ?_
            refine lv_iload_n (pc := 44) hx hb d_M_hasPeriod_44 rfl (lv_at hl 4 rfl) ?_
            refine nr_iadd (pc := 45) hx hb d_M_hasPeriod_45 ?_
            refine M_ald1 (pc := 46) S I (by omega) d_M_hasPeriod_46 ?_
            refine nr_icmp_eq (pc := 47) (tgt := 52) hx hb (sm3 (hT _)) (sm3 (hT _)) d_M_hasPeriod_47 (by decide) (fun c_47 => ?_) (fun c_47 => ?_)
            · refine nr_iinc (pc := 52) (lv' := [(4, .int (nI (k + 1))), (0, .ref (a 0)), (1, .int (nI (i))), (2, .int (nI (j))), (3, .int (nI (p)))]) hx hb d_M_hasPeriod_52 hl (d := 1) rfl (k := 0) rfl (by decide) rfl (fun ls hl => ?_)
              refine lv_goto (pc := 55) (tgt := 14) hx hb d_M_hasPeriod_55 (by decide) ?_
              exact ih_14 (k + 1) (by omega) (by omega) (fun x h1 h2 => by
                rcases Nat.lt_or_ge x k with w | w
                · exact hk x h1 w
                · rw [show x = k by omega]; exact c_47) (by omega) _ _ I ls (lv_sub hl [0, 1, 2, 3, 4] rfl)
            · refine nr_iconst (pc := 50) hx hb 0 rfl d_M_hasPeriod_50 ?_
              exact hret (0) _ _ _ _ _ I d_M_hasPeriod_51 (by omega) ⟨_, rfl, by omega, ⟨fun w => absurd rfl w, fun w => absurd (w.2 k hik (by omega)) c_47⟩, rfl⟩
    exact lp_14 _ i (by omega) (by omega) (fun x h1 h2 => absurd h2 (by omega)) (Nat.lt_succ_self _) _ _ I ls (lv_sub hl [0, 1, 2, 3, 4] rfl)
  · refine nr_iconst (pc := 9) hx hb 0 rfl d_M_hasPeriod_9 ?_
    exact hret (0) _ _ _ _ _ I d_M_hasPeriod_10 (by omega) ⟨_, rfl, by omega, ⟨fun w => absurd rfl w, fun w => absurd w.1 (by omega)⟩, rfl⟩
set_option maxHeartbeats 4000000 in
set_option maxRecDepth 20000 in
theorem c_M_leastPeriod (l : Launch) (dC : Nat → ClassId) (dI : Nat → Nat → Nat) (cA : ClassId) (a : Nat → Nat) (T Cp Fi La Le : Nat → Nat) (n fo : Nat) (i j : Nat) (hT : ∀ i, T i ≤ 3) (hij : i ≤ j) (hj : j < 48) : M_Mi l dC dI cA a y_M_leastPeriod b_M_leastPeriod 4 (some .int) (rmL 1) [.int (nI (i)), .int (nI (j))] (T, Cp, Fi, La, Le, n, fo) (fun r u => ∃ p : Nat, r = nI p ∧ rf_lp T i (j + 1) p ∧ u = (T, Cp, Fi, La, Le, n, fo)) := by
  refine M_meti (by decide) rfl (Nat.le_of_ble_eq_true rfl) ?_
  intro zp ze zs zm za zb zt zc A Q S I hret ls hl
  have hl : lv_has ls 4 [(0, .ref (a 0)), (1, .int (nI (i))), (2, .int (nI (j)))] := hl
  have hx := S.1
  have hb := S.2.1
  refine nr_iconst (pc := 0) hx hb 1 rfl d_M_leastPeriod_0 ?_
  refine lv_istore_n (pc := 1) (lv' := [(3, .int (nI (1))), (0, .ref (a 0)), (1, .int (nI (i))), (2, .int (nI (j)))]) hx hb d_M_leastPeriod_1 rfl hl (by decide) rfl (fun ls hl => ?_)
  have lp_2 : ∀ (fu : Nat) (p : Nat), (1 ≤ p) → (i + p ≤ j + 1) → (∀ q, 1 ≤ q → q < p → ¬ rf_per T i (j + 1) q) → 49 - p < fu → ∀ (H : Heap) (locs : List Loc), M_I dC dI cA a A zs zs.heap H locs (T, Cp, Fi, La, Le, n, fo) → ∀ ls : Array Slot, lv_has ls 4 [(3, .int (nI (p))), (0, .ref (a 0)), (1, .int (nI (i))), (2, .int (nI (j)))] → W zp l ze (rmL 1) zs zm za zb zt zc H locs 0 0 Q (F0 zm 2 ls []) := by
    intro fu
    induction fu with
    | zero =>
      intro p hp1 hp2 hq hfu
      exact absurd hfu (Nat.not_lt_zero _)
    | succ fu ih_2 =>
      intro p hp1 hp2 hq hfu H locs I ls hl
      refine lv_iload_n (pc := 2) hx hb d_M_leastPeriod_2 rfl (lv_at hl 0 rfl) ?_
      refine nr_bipush (pc := 3) hx hb 48 (by decide) d_M_leastPeriod_3 ?_
      refine nr_icmp_gt (pc := 5) (tgt := 26) hx hb (by omega) (by decide) d_M_leastPeriod_5 (by decide) (fun c_5 => ?_) (fun c_5 => ?_)
      · exact absurd c_5 (by omega)
      · refine lv_aload_n (pc := 8) hx hb d_M_leastPeriod_8 rfl (lv_at hl 1 rfl) ?_
        refine lv_iload_n (pc := 9) hx hb d_M_leastPeriod_9 rfl (lv_at hl 2 rfl) ?_
        refine lv_iload_n (pc := 10) hx hb d_M_leastPeriod_10 rfl (lv_at hl 3 rfl) ?_
        refine lv_iload_n (pc := 11) hx hb d_M_leastPeriod_11 rfl (lv_at hl 0 rfl) ?_
        refine M_calli (pc := 12) (rest := []) [.int (nI (i)), .int (nI (j)), .int (nI (p))] S (c_M_hasPeriod l dC dI cA a T Cp Fi La Le n fo i j p hT (by omega) (by omega) (by omega) (by omega)) k_M_M_hasPeriod e_M_hasPeriod rfl rfl ⟨Nat.le_of_ble_eq_true rfl, Nat.le_of_ble_eq_true rfl⟩ I rfl hl.1 rfl (Nat.le_of_ble_eq_true rfl) d_M_leastPeriod_12 (fun r u H locs hw I => ?_)
        obtain ⟨z, rfl, hz, ez, rfl⟩ := hw
        refine nr_if_eq (pc := 15) (tgt := 20) hx hb (by omega) d_M_leastPeriod_15 (by decide) (fun c_15 => ?_) (fun c_15 => ?_)
        · have hnp : ¬ rf_per T i (j + 1) p := fun w => (ez.mpr ⟨hp2, w⟩) c_15
          have hlt : i + p ≠ j + 1 := fun w => hnp (fun x h1 h2 => by omega)
          refine nr_iinc (pc := 20) (lv' := [(3, .int (nI (p + 1))), (0, .ref (a 0)), (1, .int (nI (i))), (2, .int (nI (j)))]) hx hb d_M_leastPeriod_20 hl (d := 1) rfl (k := 0) rfl (by decide) rfl (fun ls hl => ?_)
          refine lv_goto (pc := 23) (tgt := 2) hx hb d_M_leastPeriod_23 (by decide) ?_
          exact ih_2 (p + 1) (by omega) (by omega) (fun q h1 h2 => by
            rcases Nat.lt_or_ge q p with w | w
            · exact hq q h1 w
            · rw [show q = p by omega]; exact hnp) (by omega) _ _ I ls (lv_sub hl [0, 1, 2, 3] rfl)
        · refine lv_iload_n (pc := 18) hx hb d_M_leastPeriod_18 rfl (lv_at hl 0 rfl) ?_
          exact hret _ _ _ _ _ _ I d_M_leastPeriod_19 ⟨p, rfl, ⟨hp1, hp2, (ez.mp c_15).2, hq⟩, rfl⟩
  exact lp_2 _ 1 (by omega) (by omega) (fun q h1 h2 => absurd h2 (by omega)) (Nat.lt_succ_self _) _ _ I ls (lv_sub hl [0, 1, 2, 3] rfl)
set_option maxHeartbeats 4000000 in
set_option maxRecDepth 20000 in
theorem c_M_runFrom (l : Launch) (dC : Nat → ClassId) (dI : Nat → Nat → Nat) (cA : ClassId) (a : Nat → Nat) (T Cp Fi La Le : Nat → Nat) (n fo : Nat) (i p : Nat) (hn : n ≤ 48) (hT : ∀ i, T i ≤ 3) (hi : i < n) (hp1 : 1 ≤ p) (hp : p ≤ 24) : M_Mi l dC dI cA a y_M_runFrom b_M_runFrom 4 (some .int) (rmL 2) [.int (nI (i)), .int (nI (p))] (T, Cp, Fi, La, Le, n, fo) (fun r u => ((∃ j : Nat, r = nI j ∧ rf_run T n i j p) ∨ (r = -1 ∧ ∀ j, ¬ rf_run T n i j p)) ∧ u = (T, Cp, Fi, La, Le, n, fo)) := by
  refine M_meti (by decide) rfl (Nat.le_of_ble_eq_true rfl) ?_
  intro zp ze zs zm za zb zt zc A Q S I hret ls hl
  have hl : lv_has ls 4 [(0, .ref (a 0)), (1, .int (nI (i))), (2, .int (nI (p)))] := hl
  have hx := S.1
  have hb := S.2.1
  refine lv_iload_n (pc := 0) hx hb d_M_runFrom_0 rfl (lv_at hl 1 rfl) ?_
  refine nr_iconst (pc := 1) hx hb 2 rfl d_M_runFrom_1 ?_
  refine lv_iload_n (pc := 2) hx hb d_M_runFrom_2 rfl (lv_at hl 2 rfl) ?_
  refine nr_imul (pc := 3) hx hb d_M_runFrom_3 ?_
  refine nr_iadd (pc := 4) hx hb d_M_runFrom_4 ?_
  refine nr_iconst (pc := 5) hx hb 1 rfl d_M_runFrom_5 ?_
  refine nr_isub (pc := 6) hx hb (by omega) d_M_runFrom_6 ?_
  refine lv_istore_n (pc := 7) (lv' := [(3, .int (nI ((i + (2 * p)) - 1))), (0, .ref (a 0)), (1, .int (nI (i))), (2, .int (nI (p)))]) hx hb d_M_runFrom_7 rfl hl (by decide) rfl (fun ls hl => ?_)
  refine lv_iload_n (pc := 8) hx hb d_M_runFrom_8 rfl (lv_at hl 0 rfl) ?_
  refine lv_aload_n (pc := 9) hx hb d_M_runFrom_9 rfl (lv_at hl 1 rfl) ?_
  refine M_get_length (pc := 10) S I d_M_runFrom_10 ?_
  refine nr_icmp_ge (pc := 13) (tgt := 26) hx hb (by omega) (by omega) d_M_runFrom_13 (by decide) (fun c_13 => ?_) (fun c_13 => ?_)
  · refine lv_iconst (pc := 26) (v := -1) hx hb d_M_runFrom_26 (by decide) ?_
    exact hret _ _ _ _ _ _ I d_M_runFrom_27 ⟨Or.inr ⟨rfl, fun j hr => by first | (have h1 := hr.2.1; have h2 := hr.2.2.1; omega) | exact (ez.mpr ⟨by omega, rf_per_mono hr.2.2.2.1 (Nat.le_refl _) (by have h1 := hr.2.1; omega)⟩) c_23⟩, rfl⟩
  · refine lv_aload_n (pc := 16) hx hb d_M_runFrom_16 rfl (lv_at hl 1 rfl) ?_
    refine lv_iload_n (pc := 17) hx hb d_M_runFrom_17 rfl (lv_at hl 2 rfl) ?_
    refine lv_iload_n (pc := 18) hx hb d_M_runFrom_18 rfl (lv_at hl 0 rfl) ?_
    refine lv_iload_n (pc := 19) hx hb d_M_runFrom_19 rfl (lv_at hl 3 rfl) ?_
    refine M_calli (pc := 20) (rest := []) [.int (nI (i)), .int (nI ((i + (2 * p)) - 1)), .int (nI (p))] S (c_M_hasPeriod l dC dI cA a T Cp Fi La Le n fo i (i + 2 * p - 1) p hT (by omega) (by omega) (by omega) (by omega)) k_M_M_hasPeriod e_M_hasPeriod rfl rfl ⟨Nat.le_of_ble_eq_true rfl, Nat.le_of_ble_eq_true rfl⟩ I rfl hl.1 rfl (Nat.le_of_ble_eq_true rfl) d_M_runFrom_20 (fun r u H locs hw I => ?_)
    obtain ⟨z, rfl, hz, ez, rfl⟩ := hw
    refine nr_if_ne (pc := 23) (tgt := 28) hx hb (by omega) d_M_runFrom_23 (by decide) (fun c_23 => ?_) (fun c_23 => ?_)
    · have hper0 := (ez.mp c_23).2
      refine lv_iload_n (pc := 28) hx hb d_M_runFrom_28 rfl (lv_at hl 2 rfl) ?_
      refine nr_if_le (pc := 29) (tgt := 55) hx hb (by omega) d_M_runFrom_29 (by decide) (fun c_29 => ?_) (fun c_29 => ?_)
      · have hLm : 0 < i → T (i - 1) ≠ T (i - 1 + p) := fun w => absurd w (by omega)
        have lp_55 : ∀ (fu : Nat) (j : Nat), (i + 2 * p ≤ j + 1) → (j < n) → (rf_per T i (j + 1) p) → n - j < fu → ∀ (H : Heap) (locs : List Loc), M_I dC dI cA a A zs zs.heap H locs (T, Cp, Fi, La, Le, n, fo) → ∀ ls : Array Slot, lv_has ls 4 [(3, .int (nI (j))), (0, .ref (a 0)), (1, .int (nI (i))), (2, .int (nI (p)))] → W zp l ze (rmL 2) zs zm za zb zt zc H locs 0 0 Q (F0 zm 55 ls []) := by
          intro fu
          induction fu with
          | zero =>
            intro j hj2 hjn hper hfu
            exact absurd hfu (Nat.not_lt_zero _)
          | succ fu ih_55 =>
            intro j hj2 hjn hper hfu H locs I ls hl
            refine lv_iload_n (pc := 55) hx hb d_M_runFrom_55 rfl (lv_at hl 0 rfl) ?_
            refine nr_iconst (pc := 56) hx hb 1 rfl d_M_runFrom_56 ?_
            refine nr_iadd (pc := 57) hx hb d_M_runFrom_57 ?_
            refine lv_aload_n (pc := 58) hx hb d_M_runFrom_58 rfl (lv_at hl 1 rfl) ?_
            refine M_get_length (pc := 59) S I d_M_runFrom_59 ?_
            refine nr_icmp_ge (pc := 62) (tgt := 83) hx hb (by omega) (by omega) d_M_runFrom_62 (by decide) (fun c_62 => ?_) (fun c_62 => ?_)
            · have hRm : j + 1 < n → T (j + 1 - p) ≠ T (j + 1) := fun w => absurd w (by omega)
              refine lv_aload_n (pc := 83) hx hb d_M_runFrom_83 rfl (lv_at hl 1 rfl) ?_
              refine lv_iload_n (pc := 84) hx hb d_M_runFrom_84 rfl (lv_at hl 2 rfl) ?_
              refine lv_iload_n (pc := 85) hx hb d_M_runFrom_85 rfl (lv_at hl 0 rfl) ?_
              refine M_calli (pc := 86) (rest := []) [.int (nI (i)), .int (nI (j))] S (c_M_leastPeriod l dC dI cA a T Cp Fi La Le n fo i j hT (by omega) (by omega)) k_M_M_leastPeriod e_M_leastPeriod rfl rfl ⟨Nat.le_of_ble_eq_true rfl, Nat.le_of_ble_eq_true rfl⟩ I rfl hl.1 rfl (Nat.le_of_ble_eq_true rfl) d_M_runFrom_86 (fun r u H locs hw I => ?_)
              obtain ⟨q, rfl, hq, rfl⟩ := hw
              have hqb := hq.2.1
              refine lv_iload_n (pc := 89) hx hb d_M_runFrom_89 rfl (lv_at hl 3 rfl) ?_
              refine nr_icmp_ne (pc := 90) (tgt := 97) hx hb (by omega) (by omega) d_M_runFrom_90 (by decide) (fun c_90 => ?_) (fun c_90 => ?_)
              · refine lv_iconst (pc := 97) (v := -1) hx hb d_M_runFrom_97 (by decide) ?_
                exact hret _ _ _ _ _ _ I d_M_runFrom_98 ⟨Or.inr ⟨rfl, fun j' hr => by
                  have e := rf_run_j hj2 hjn hper hRm hr
                  rw [e] at hr
                  exact c_90 (rf_lp_u hq ⟨hp1, by omega, hr.2.2.2.1, hr.2.2.2.2.2.2⟩)⟩, rfl⟩
              · refine lv_iload_n (pc := 93) hx hb d_M_runFrom_93 rfl (lv_at hl 0 rfl) ?_
                refine lv_goto (pc := 94) (tgt := 98) hx hb d_M_runFrom_94 (by decide) ?_
                exact hret _ _ _ _ _ _ I d_M_runFrom_98 ⟨Or.inl ⟨j, rfl, hp1, hj2, hjn, hper, hLm, hRm, fun d h1 h2 => hq.2.2.2 d h1 (by omega)⟩, rfl⟩
            · refine lv_aload_n (pc := 65) hx hb d_M_runFrom_65 rfl (lv_at hl 1 rfl) ?_
              refine lv_iload_n (pc := 66) hx hb d_M_runFrom_66 rfl (lv_at hl 2 rfl) ?_
              refine lv_iload_n (pc := 67) hx hb d_M_runFrom_67 rfl (lv_at hl 0 rfl) ?_
              refine nr_iconst (pc := 68) hx hb 1 rfl d_M_runFrom_68 ?_
              refine nr_iadd (pc := 69) hx hb d_M_runFrom_69 ?_
              refine lv_iload_n (pc := 70) hx hb d_M_runFrom_70 rfl (lv_at hl 3 rfl) ?_
              refine M_calli (pc := 71) (rest := []) [.int (nI (i)), .int (nI (j + 1)), .int (nI (p))] S (c_M_hasPeriod l dC dI cA a T Cp Fi La Le n fo i (j + 1) p hT (by omega) (by omega) (by omega) (by omega)) k_M_M_hasPeriod e_M_hasPeriod rfl rfl ⟨Nat.le_of_ble_eq_true rfl, Nat.le_of_ble_eq_true rfl⟩ I rfl hl.1 rfl (Nat.le_of_ble_eq_true rfl) d_M_runFrom_71 (fun r u H locs hw I => ?_)
              obtain ⟨y, rfl, hy, ey, rfl⟩ := hw
              refine nr_if_eq (pc := 74) (tgt := 83) hx hb (by omega) d_M_runFrom_74 (by decide) (fun c_74 => ?_) (fun c_74 => ?_)
              · have hRm : j + 1 < n → T (j + 1 - p) ≠ T (j + 1) := fun _ w => (ey.mpr ⟨by omega, rf_per_ext hper (by omega) w⟩) c_74
                refine lv_aload_n (pc := 83) hx hb d_M_runFrom_83 rfl (lv_at hl 1 rfl) ?_
                refine lv_iload_n (pc := 84) hx hb d_M_runFrom_84 rfl (lv_at hl 2 rfl) ?_
                refine lv_iload_n (pc := 85) hx hb d_M_runFrom_85 rfl (lv_at hl 0 rfl) ?_
                refine M_calli (pc := 86) (rest := []) [.int (nI (i)), .int (nI (j))] S (c_M_leastPeriod l dC dI cA a T Cp Fi La Le n fo i j hT (by omega) (by omega)) k_M_M_leastPeriod e_M_leastPeriod rfl rfl ⟨Nat.le_of_ble_eq_true rfl, Nat.le_of_ble_eq_true rfl⟩ I rfl hl.1 rfl (Nat.le_of_ble_eq_true rfl) d_M_runFrom_86 (fun r u H locs hw I => ?_)
                obtain ⟨q, rfl, hq, rfl⟩ := hw
                have hqb := hq.2.1
                refine lv_iload_n (pc := 89) hx hb d_M_runFrom_89 rfl (lv_at hl 3 rfl) ?_
                refine nr_icmp_ne (pc := 90) (tgt := 97) hx hb (by omega) (by omega) d_M_runFrom_90 (by decide) (fun c_90 => ?_) (fun c_90 => ?_)
                · refine lv_iconst (pc := 97) (v := -1) hx hb d_M_runFrom_97 (by decide) ?_
                  exact hret _ _ _ _ _ _ I d_M_runFrom_98 ⟨Or.inr ⟨rfl, fun j' hr => by
                    have e := rf_run_j hj2 hjn hper hRm hr
                    rw [e] at hr
                    exact c_90 (rf_lp_u hq ⟨hp1, by omega, hr.2.2.2.1, hr.2.2.2.2.2.2⟩)⟩, rfl⟩
                · refine lv_iload_n (pc := 93) hx hb d_M_runFrom_93 rfl (lv_at hl 0 rfl) ?_
                  refine lv_goto (pc := 94) (tgt := 98) hx hb d_M_runFrom_94 (by decide) ?_
                  exact hret _ _ _ _ _ _ I d_M_runFrom_98 ⟨Or.inl ⟨j, rfl, hp1, hj2, hjn, hper, hLm, hRm, fun d h1 h2 => hq.2.2.2 d h1 (by omega)⟩, rfl⟩
              · have hper2 := (ey.mp c_74).2
                refine nr_iinc (pc := 77) (lv' := [(3, .int (nI (j + 1))), (0, .ref (a 0)), (1, .int (nI (i))), (2, .int (nI (p)))]) hx hb d_M_runFrom_77 hl (d := 1) rfl (k := 0) rfl (by decide) rfl (fun ls hl => ?_)
                refine lv_goto (pc := 80) (tgt := 55) hx hb d_M_runFrom_80 (by decide) ?_
                exact ih_55 (j + 1) (by omega) (by omega) hper2 (by omega) _ _ I ls (lv_sub hl [0, 1, 2, 3] rfl)
        exact lp_55 _ ((i + (2 * p)) - 1) (by omega) (by omega) hper0 (Nat.lt_succ_self _) _ _ I ls (lv_sub hl [0, 1, 2, 3] rfl)
      · refine lv_aload_n (pc := 32) hx hb d_M_runFrom_32 rfl (lv_at hl 1 rfl) ?_
        refine M_get_text (pc := 33) S I d_M_runFrom_33 ?_
        refine lv_iload_n (pc := 36) hx hb d_M_runFrom_36 rfl (lv_at hl 2 rfl) ?_
        refine nr_iconst (pc := 37) hx hb 1 rfl d_M_runFrom_37 ?_
        refine nr_isub (pc := 38) hx hb (by omega) d_M_runFrom_38 ?_
        refine M_ald1 (pc := 39) S I (by omega) d_M_runFrom_39 ?_
        refine lv_aload_n (pc := 40) hx hb d_M_runFrom_40 rfl (lv_at hl 1 rfl) ?_
        refine M_get_text (pc := 41) S I d_M_runFrom_41 ?_
        refine lv_iload_n (pc := 44) hx hb d_M_runFrom_44 rfl (lv_at hl 2 rfl) ?_
        refine nr_iconst (pc := 45) hx hb 1 rfl d_M_runFrom_45 ?_
        refine nr_isub (pc := 46) hx hb (by omega) d_M_runFrom_46 ?_
        refine lv_iload_n (pc := 47) hx hb d_M_runFrom_47 rfl (lv_at hl 3 rfl) ?_
        refine nr_iadd (pc := 48) hx hb d_M_runFrom_48 ?_
        refine M_ald1 (pc := 49) S I (by omega) d_M_runFrom_49 ?_
        refine nr_icmp_ne (pc := 50) (tgt := 55) hx hb (sm3 (hT _)) (sm3 (hT _)) d_M_runFrom_50 (by decide) (fun c_50 => ?_) (fun c_50 => ?_)
        · have hLm : 0 < i → T (i - 1) ≠ T (i - 1 + p) := fun _ => c_50
          have lp_55 : ∀ (fu : Nat) (j : Nat), (i + 2 * p ≤ j + 1) → (j < n) → (rf_per T i (j + 1) p) → n - j < fu → ∀ (H : Heap) (locs : List Loc), M_I dC dI cA a A zs zs.heap H locs (T, Cp, Fi, La, Le, n, fo) → ∀ ls : Array Slot, lv_has ls 4 [(3, .int (nI (j))), (0, .ref (a 0)), (1, .int (nI (i))), (2, .int (nI (p)))] → W zp l ze (rmL 2) zs zm za zb zt zc H locs 0 0 Q (F0 zm 55 ls []) := by
            intro fu
            induction fu with
            | zero =>
              intro j hj2 hjn hper hfu
              exact absurd hfu (Nat.not_lt_zero _)
            | succ fu ih_55 =>
              intro j hj2 hjn hper hfu H locs I ls hl
              refine lv_iload_n (pc := 55) hx hb d_M_runFrom_55 rfl (lv_at hl 0 rfl) ?_
              refine nr_iconst (pc := 56) hx hb 1 rfl d_M_runFrom_56 ?_
              refine nr_iadd (pc := 57) hx hb d_M_runFrom_57 ?_
              refine lv_aload_n (pc := 58) hx hb d_M_runFrom_58 rfl (lv_at hl 1 rfl) ?_
              refine M_get_length (pc := 59) S I d_M_runFrom_59 ?_
              refine nr_icmp_ge (pc := 62) (tgt := 83) hx hb (by omega) (by omega) d_M_runFrom_62 (by decide) (fun c_62 => ?_) (fun c_62 => ?_)
              · have hRm : j + 1 < n → T (j + 1 - p) ≠ T (j + 1) := fun w => absurd w (by omega)
                refine lv_aload_n (pc := 83) hx hb d_M_runFrom_83 rfl (lv_at hl 1 rfl) ?_
                refine lv_iload_n (pc := 84) hx hb d_M_runFrom_84 rfl (lv_at hl 2 rfl) ?_
                refine lv_iload_n (pc := 85) hx hb d_M_runFrom_85 rfl (lv_at hl 0 rfl) ?_
                refine M_calli (pc := 86) (rest := []) [.int (nI (i)), .int (nI (j))] S (c_M_leastPeriod l dC dI cA a T Cp Fi La Le n fo i j hT (by omega) (by omega)) k_M_M_leastPeriod e_M_leastPeriod rfl rfl ⟨Nat.le_of_ble_eq_true rfl, Nat.le_of_ble_eq_true rfl⟩ I rfl hl.1 rfl (Nat.le_of_ble_eq_true rfl) d_M_runFrom_86 (fun r u H locs hw I => ?_)
                obtain ⟨q, rfl, hq, rfl⟩ := hw
                have hqb := hq.2.1
                refine lv_iload_n (pc := 89) hx hb d_M_runFrom_89 rfl (lv_at hl 3 rfl) ?_
                refine nr_icmp_ne (pc := 90) (tgt := 97) hx hb (by omega) (by omega) d_M_runFrom_90 (by decide) (fun c_90 => ?_) (fun c_90 => ?_)
                · refine lv_iconst (pc := 97) (v := -1) hx hb d_M_runFrom_97 (by decide) ?_
                  exact hret _ _ _ _ _ _ I d_M_runFrom_98 ⟨Or.inr ⟨rfl, fun j' hr => by
                    have e := rf_run_j hj2 hjn hper hRm hr
                    rw [e] at hr
                    exact c_90 (rf_lp_u hq ⟨hp1, by omega, hr.2.2.2.1, hr.2.2.2.2.2.2⟩)⟩, rfl⟩
                · refine lv_iload_n (pc := 93) hx hb d_M_runFrom_93 rfl (lv_at hl 0 rfl) ?_
                  refine lv_goto (pc := 94) (tgt := 98) hx hb d_M_runFrom_94 (by decide) ?_
                  exact hret _ _ _ _ _ _ I d_M_runFrom_98 ⟨Or.inl ⟨j, rfl, hp1, hj2, hjn, hper, hLm, hRm, fun d h1 h2 => hq.2.2.2 d h1 (by omega)⟩, rfl⟩
              · refine lv_aload_n (pc := 65) hx hb d_M_runFrom_65 rfl (lv_at hl 1 rfl) ?_
                refine lv_iload_n (pc := 66) hx hb d_M_runFrom_66 rfl (lv_at hl 2 rfl) ?_
                refine lv_iload_n (pc := 67) hx hb d_M_runFrom_67 rfl (lv_at hl 0 rfl) ?_
                refine nr_iconst (pc := 68) hx hb 1 rfl d_M_runFrom_68 ?_
                refine nr_iadd (pc := 69) hx hb d_M_runFrom_69 ?_
                refine lv_iload_n (pc := 70) hx hb d_M_runFrom_70 rfl (lv_at hl 3 rfl) ?_
                refine M_calli (pc := 71) (rest := []) [.int (nI (i)), .int (nI (j + 1)), .int (nI (p))] S (c_M_hasPeriod l dC dI cA a T Cp Fi La Le n fo i (j + 1) p hT (by omega) (by omega) (by omega) (by omega)) k_M_M_hasPeriod e_M_hasPeriod rfl rfl ⟨Nat.le_of_ble_eq_true rfl, Nat.le_of_ble_eq_true rfl⟩ I rfl hl.1 rfl (Nat.le_of_ble_eq_true rfl) d_M_runFrom_71 (fun r u H locs hw I => ?_)
                obtain ⟨y, rfl, hy, ey, rfl⟩ := hw
                refine nr_if_eq (pc := 74) (tgt := 83) hx hb (by omega) d_M_runFrom_74 (by decide) (fun c_74 => ?_) (fun c_74 => ?_)
                · have hRm : j + 1 < n → T (j + 1 - p) ≠ T (j + 1) := fun _ w => (ey.mpr ⟨by omega, rf_per_ext hper (by omega) w⟩) c_74
                  refine lv_aload_n (pc := 83) hx hb d_M_runFrom_83 rfl (lv_at hl 1 rfl) ?_
                  refine lv_iload_n (pc := 84) hx hb d_M_runFrom_84 rfl (lv_at hl 2 rfl) ?_
                  refine lv_iload_n (pc := 85) hx hb d_M_runFrom_85 rfl (lv_at hl 0 rfl) ?_
                  refine M_calli (pc := 86) (rest := []) [.int (nI (i)), .int (nI (j))] S (c_M_leastPeriod l dC dI cA a T Cp Fi La Le n fo i j hT (by omega) (by omega)) k_M_M_leastPeriod e_M_leastPeriod rfl rfl ⟨Nat.le_of_ble_eq_true rfl, Nat.le_of_ble_eq_true rfl⟩ I rfl hl.1 rfl (Nat.le_of_ble_eq_true rfl) d_M_runFrom_86 (fun r u H locs hw I => ?_)
                  obtain ⟨q, rfl, hq, rfl⟩ := hw
                  have hqb := hq.2.1
                  refine lv_iload_n (pc := 89) hx hb d_M_runFrom_89 rfl (lv_at hl 3 rfl) ?_
                  refine nr_icmp_ne (pc := 90) (tgt := 97) hx hb (by omega) (by omega) d_M_runFrom_90 (by decide) (fun c_90 => ?_) (fun c_90 => ?_)
                  · refine lv_iconst (pc := 97) (v := -1) hx hb d_M_runFrom_97 (by decide) ?_
                    exact hret _ _ _ _ _ _ I d_M_runFrom_98 ⟨Or.inr ⟨rfl, fun j' hr => by
                      have e := rf_run_j hj2 hjn hper hRm hr
                      rw [e] at hr
                      exact c_90 (rf_lp_u hq ⟨hp1, by omega, hr.2.2.2.1, hr.2.2.2.2.2.2⟩)⟩, rfl⟩
                  · refine lv_iload_n (pc := 93) hx hb d_M_runFrom_93 rfl (lv_at hl 0 rfl) ?_
                    refine lv_goto (pc := 94) (tgt := 98) hx hb d_M_runFrom_94 (by decide) ?_
                    exact hret _ _ _ _ _ _ I d_M_runFrom_98 ⟨Or.inl ⟨j, rfl, hp1, hj2, hjn, hper, hLm, hRm, fun d h1 h2 => hq.2.2.2 d h1 (by omega)⟩, rfl⟩
                · have hper2 := (ey.mp c_74).2
                  refine nr_iinc (pc := 77) (lv' := [(3, .int (nI (j + 1))), (0, .ref (a 0)), (1, .int (nI (i))), (2, .int (nI (p)))]) hx hb d_M_runFrom_77 hl (d := 1) rfl (k := 0) rfl (by decide) rfl (fun ls hl => ?_)
                  refine lv_goto (pc := 80) (tgt := 55) hx hb d_M_runFrom_80 (by decide) ?_
                  exact ih_55 (j + 1) (by omega) (by omega) hper2 (by omega) _ _ I ls (lv_sub hl [0, 1, 2, 3] rfl)
          exact lp_55 _ ((i + (2 * p)) - 1) (by omega) (by omega) hper0 (Nat.lt_succ_self _) _ _ I ls (lv_sub hl [0, 1, 2, 3] rfl)
        · refine lv_iconst (pc := 53) (v := -1) hx hb d_M_runFrom_53 (by decide) ?_
          exact hret _ _ _ _ _ _ I d_M_runFrom_54 ⟨Or.inr ⟨rfl, fun j hr => hr.2.2.2.2.1 c_29 c_50⟩, rfl⟩
    · refine lv_iconst (pc := 26) (v := -1) hx hb d_M_runFrom_26 (by decide) ?_
      exact hret _ _ _ _ _ _ I d_M_runFrom_27 ⟨Or.inr ⟨rfl, fun j hr => by first | (have h1 := hr.2.1; have h2 := hr.2.2.1; omega) | exact (ez.mpr ⟨by omega, rf_per_mono hr.2.2.2.1 (Nat.le_refl _) (by have h1 := hr.2.1; omega)⟩) c_23⟩, rfl⟩
set_option maxHeartbeats 4000000 in
set_option maxRecDepth 20000 in
theorem c_M_list (l : Launch) (dC : Nat → ClassId) (dI : Nat → Nat → Nat) (cA : ClassId) (a : Nat → Nat) (T Cp Fi La Le : Nat → Nat) (n fo : Nat) (hn : n ≤ 48) (hT : ∀ i, T i ≤ 3) : M_Mv l dC dI cA a y_M_list b_M_list 4 (rmL 3) [] (T, Cp, Fi, La, Le, n, fo) (fun u => ∃ (Fi' La' Le' : Nat → Nat) (fo' : Nat), rf_all T n fo' Fi' La' Le' ∧ u = (T, Cp, Fi', La', Le', n, fo')) := by
  refine M_metv (by decide) rfl (Nat.le_of_ble_eq_true rfl) ?_
  intro zp ze zs zm za zb zt zc A Q S I hret ls hl
  have hl : lv_has ls 4 [(0, .ref (a 0))] := hl
  have hx := S.1
  have hb := S.2.1
  refine lv_aload_n (pc := 0) hx hb d_M_list_0 rfl (lv_at hl 0 rfl) ?_
  refine nr_iconst (pc := 1) hx hb 0 rfl d_M_list_1 ?_
  refine M_put_found (pc := 2) S I d_M_list_2 (fun H locs I => ?_)
  refine nr_iconst (pc := 5) hx hb 0 rfl d_M_list_5 ?_
  refine lv_istore_n (pc := 6) (lv' := [(1, .int (nI (0))), (0, .ref (a 0))]) hx hb d_M_list_6 rfl hl (by decide) rfl (fun ls hl => ?_)
  have lp_7 : ∀ (fu : Nat) (i : Nat) (Fi' : Nat → Nat) (La' : Nat → Nat) (Le' : Nat → Nat) (fo' : Nat), (i ≤ n) → (rf_lst T n fo' Fi' La' Le') → (∀ r, r < fo' → Fi' r < i) → (∀ i0 j p, rf_run T n i0 j p → i0 < i → rf_has fo' Fi' La' Le' i0 j p) → n - i < fu → ∀ (H : Heap) (locs : List Loc), M_I dC dI cA a A zs zs.heap H locs (T, Cp, Fi', La', Le', n, fo') → ∀ ls : Array Slot, lv_has ls 4 [(1, .int (nI (i))), (0, .ref (a 0))] → W zp l ze (rmL 3) zs zm za zb zt zc H locs 0 0 Q (F0 zm 7 ls []) := by
    intro fu
    induction fu with
    | zero =>
      intro i Fi' La' Le' fo' hin hL hla hfd hfu
      exact absurd hfu (Nat.not_lt_zero _)
    | succ fu ih_7 =>
      intro i Fi' La' Le' fo' hin hL hla hfd hfu H locs I ls hl
      refine lv_iload_n (pc := 7) hx hb d_M_list_7 rfl (lv_at hl 0 rfl) ?_
      refine lv_aload_n (pc := 8) hx hb d_M_list_8 rfl (lv_at hl 1 rfl) ?_
      refine M_get_length (pc := 9) S I d_M_list_9 ?_
      refine nr_icmp_ge (pc := 12) (tgt := 95) hx hb (by omega) (by omega) d_M_list_12 (by decide) (fun c_12 => ?_) (fun c_12 => ?_)
      · exact hret _ _ _ _ _ I d_M_list_95 ⟨Fi', La', Le', fo', ⟨hL, fun i0 j p hr => hfd i0 j p hr (by have h1 := hr.1; have h2 := hr.2.1; have h3 := hr.2.2.1; omega)⟩, rfl⟩
      · refine nr_iconst (pc := 15) hx hb 1 rfl d_M_list_15 ?_
        refine lv_istore_n (pc := 16) (lv' := [(2, .int (nI (1))), (1, .int (nI (i))), (0, .ref (a 0))]) hx hb d_M_list_16 rfl hl (by decide) rfl (fun ls hl => ?_)
        have lp_17 : ∀ (fu : Nat) (p : Nat) (Fi' : Nat → Nat) (La' : Nat → Nat) (Le' : Nat → Nat) (fo' : Nat), (1 ≤ p) → (p ≤ 25) → (rf_lst T n fo' Fi' La' Le') → (∀ r, r < fo' → rf_lex (Fi' r) (Le' r) i p) → (∀ i0 j p, rf_run T n i0 j p → i0 < i → rf_has fo' Fi' La' Le' i0 j p) → (∀ j p', rf_run T n i j p' → p' < p → rf_has fo' Fi' La' Le' i j p') → 25 - p < fu → ∀ (H : Heap) (locs : List Loc), M_I dC dI cA a A zs zs.heap H locs (T, Cp, Fi', La', Le', n, fo') → ∀ ls : Array Slot, lv_has ls 4 [(2, .int (nI (p))), (1, .int (nI (i))), (0, .ref (a 0))] → W zp l ze (rmL 3) zs zm za zb zt zc H locs 0 0 Q (F0 zm 17 ls []) := by
          intro fu
          induction fu with
          | zero =>
            intro p Fi' La' Le' fo' hp1 hp2 hL hlx hfd hfe hfu
            exact absurd hfu (Nat.not_lt_zero _)
          | succ fu ih_17 =>
            intro p Fi' La' Le' fo' hp1 hp2 hL hlx hfd hfe hfu H locs I ls hl
            refine lv_iload_n (pc := 17) hx hb d_M_list_17 rfl (lv_at hl 0 rfl) ?_
            refine nr_bipush (pc := 18) hx hb 24 (by decide) d_M_list_18 ?_
            refine nr_icmp_gt (pc := 20) (tgt := 89) hx hb (by omega) (by decide) d_M_list_20 (by decide) (fun c_20 => ?_) (fun c_20 => ?_)
            · refine nr_iinc (pc := 89) (lv' := [(1, .int (nI (i + 1))), (2, .int (nI (p))), (0, .ref (a 0))]) hx hb d_M_list_89 hl (d := 1) rfl (k := 1) rfl (by decide) rfl (fun ls hl => ?_)
              refine lv_goto (pc := 92) (tgt := 7) hx hb d_M_list_92 (by decide) ?_
              exact ih_7 (i + 1) Fi' La' Le' fo' (by omega) hL (fun r hr => by have q := hlx r hr; unfold rf_lex at q; omega) (fun i0 j' p' hr hlt => by
                rcases Nat.lt_or_ge i0 i with w | w
                · exact hfd i0 j' p' hr w
                · obtain rfl : i = i0 := by omega
                  exact hfe j' p' hr (by have h1 := hr.2.1; have h2 := hr.2.2.1; omega)) (by omega) _ _ I ls (lv_sub hl [0, 2] rfl)
            · refine lv_aload_n (pc := 23) hx hb d_M_list_23 rfl (lv_at hl 2 rfl) ?_
              refine lv_iload_n (pc := 24) hx hb d_M_list_24 rfl (lv_at hl 1 rfl) ?_
              refine lv_iload_n (pc := 25) hx hb d_M_list_25 rfl (lv_at hl 0 rfl) ?_
              refine M_calli (pc := 26) (rest := []) [.int (nI (i)), .int (nI (p))] S (c_M_runFrom l dC dI cA a T Cp Fi' La' Le' n fo' i p hn hT c_12 hp1 c_20) k_M_M_runFrom e_M_runFrom rfl rfl ⟨Nat.le_of_ble_eq_true rfl, Nat.le_of_ble_eq_true rfl⟩ I rfl hl.1 rfl (Nat.le_of_ble_eq_true rfl) d_M_list_26 (fun r u H locs hw I => ?_)
              obtain ⟨hw, rfl⟩ := hw
              refine lv_istore_n (pc := 29) (lv' := [(3, .int (r)), (2, .int (nI (p))), (1, .int (nI (i))), (0, .ref (a 0))]) hx hb d_M_list_29 rfl hl (by decide) rfl (fun ls hl => ?_)
              refine lv_iload_n (pc := 30) hx hb d_M_list_30 rfl (lv_at hl 0 rfl) ?_
              refine ri_if_lt (pc := 31) (tgt := 83) hx hb d_M_list_31 (by decide) (fun c_31 => ?_) (fun c_31 => ?_)
              · have hno : ∀ j, ¬ rf_run T n i j p := by
                  rcases hw with ⟨j, rfl, hj⟩ | ⟨_, h⟩
                  · have q := hj.2.2.1
                    rw [ri_toI (by omega)] at c_31
                    omega
                  · exact h
                refine nr_iinc (pc := 83) (lv' := [(2, .int (nI (p + 1))), (3, .int (r)), (1, .int (nI (i))), (0, .ref (a 0))]) hx hb d_M_list_83 hl (d := 1) rfl (k := 1) rfl (by decide) rfl (fun ls hl => ?_)
                refine lv_goto (pc := 86) (tgt := 17) hx hb d_M_list_86 (by decide) ?_
                exact ih_17 (p + 1) Fi' La' Le' fo' (by omega) (by omega) hL (fun r hr => by have q := hlx r hr; unfold rf_lex at *; omega) hfd (fun j' p' hr hlt => by
                  rcases Nat.lt_or_ge p' p with w | w
                  · exact hfe j' p' hr w
                  · obtain rfl : p = p' := by omega
                    exact absurd hr (hno j')) (by omega) _ _ I ls (lv_sub hl [0, 2, 3] rfl)
              · obtain ⟨j, rfl, hj⟩ : ∃ j, r = nI j ∧ rf_run T n i j p := by
                  rcases hw with h | ⟨rfl, _⟩
                  · exact h
                  · exact absurd c_31 (by decide)
                have hap := rf_app hL hlx hj
                have hle := rf_lst_le hap.1
                refine lv_aload_n (pc := 34) hx hb d_M_list_34 rfl (lv_at hl 3 rfl) ?_
                refine M_get_found (pc := 35) S I d_M_list_35 ?_
                refine nr_bipush (pc := 38) hx hb 96 (by decide) d_M_list_38 ?_
                refine nr_icmp_ge (pc := 40) (tgt := 83) hx hb (by omega) (by decide) d_M_list_40 (by decide) (fun c_40 => ?_) (fun c_40 => ?_)
                · exact absurd c_40 (by omega)
                · refine lv_aload_n (pc := 43) hx hb d_M_list_43 rfl (lv_at hl 3 rfl) ?_
                  refine M_get_first (pc := 44) S I d_M_list_44 ?_
                  refine lv_aload_n (pc := 47) hx hb d_M_list_47 rfl (lv_at hl 3 rfl) ?_
                  refine M_get_found (pc := 48) S I d_M_list_48 ?_
                  refine lv_iload_n (pc := 51) hx hb d_M_list_51 rfl (lv_at hl 2 rfl) ?_
                  refine M_ast3 (pc := 52) S I (by omega) d_M_list_52 (fun H locs I => ?_)
                  refine lv_aload_n (pc := 53) hx hb d_M_list_53 rfl (lv_at hl 3 rfl) ?_
                  refine M_get_last (pc := 54) S I d_M_list_54 ?_
                  refine lv_aload_n (pc := 57) hx hb d_M_list_57 rfl (lv_at hl 3 rfl) ?_
                  refine M_get_found (pc := 58) S I d_M_list_58 ?_
                  refine lv_iload_n (pc := 61) hx hb d_M_list_61 rfl (lv_at hl 0 rfl) ?_
                  refine M_ast4 (pc := 62) S I (by omega) d_M_list_62 (fun H locs I => ?_)
                  refine lv_aload_n (pc := 63) hx hb d_M_list_63 rfl (lv_at hl 3 rfl) ?_
                  refine M_get_least (pc := 64) S I d_M_list_64 ?_
                  refine lv_aload_n (pc := 67) hx hb d_M_list_67 rfl (lv_at hl 3 rfl) ?_
                  refine M_get_found (pc := 68) S I d_M_list_68 ?_
                  refine lv_iload_n (pc := 71) hx hb d_M_list_71 rfl (lv_at hl 1 rfl) ?_
                  refine M_ast5 (pc := 72) S I (by omega) d_M_list_72 (fun H locs I => ?_)
                  refine lv_aload_n (pc := 73) hx hb d_M_list_73 rfl (lv_at hl 3 rfl) ?_
                  refine lv_dup (pc := 74) hx hb d_M_list_74 rfl ?_
                  refine M_get_found (pc := 75) S I d_M_list_75 ?_
                  refine nr_iconst (pc := 78) hx hb 1 rfl d_M_list_78 ?_
                  refine nr_iadd (pc := 79) hx hb d_M_list_79 ?_
                  refine M_put_found (pc := 80) S I d_M_list_80 (fun H locs I => ?_)
                  refine nr_iinc (pc := 83) (lv' := [(2, .int (nI (p + 1))), (3, .int (nI (j))), (1, .int (nI (i))), (0, .ref (a 0))]) hx hb d_M_list_83 hl (d := 1) rfl (k := 1) rfl (by decide) rfl (fun ls hl => ?_)
                  refine lv_goto (pc := 86) (tgt := 17) hx hb d_M_list_86 (by decide) ?_
                  exact ih_17 (p + 1) (upN Fi' fo' i) (upN La' fo' j) (upN Le' fo' p) (fo' + 1) (by omega) (by omega) hap.1 hap.2.2.2 (fun i0 j' p' hr hlt => hap.2.1 _ _ _ (hfd i0 j' p' hr hlt)) (fun j' p' hr hlt => by
                    rcases Nat.lt_or_ge p' p with w | w
                    · exact hap.2.1 _ _ _ (hfe j' p' hr w)
                    · obtain rfl : p = p' := by omega
                      have h1 := hr.2.1
                      have h2 := hj.2.1
                      rw [(rf_run_u hr hj (Nat.le_refl _) (Nat.le_refl _) (by omega) (by omega)).2]
                      exact hap.2.2.1) (by omega) _ _ I ls (lv_sub hl [0, 2, 3] rfl)
        exact lp_17 _ 1 Fi' La' Le' fo' (by omega) (by omega) hL (fun r hr => Or.inl (hla r hr)) hfd (fun j' p' hr hlt => absurd hr.1 (by omega)) (Nat.lt_succ_self _) _ _ I ls (lv_sub hl [0, 1, 2] rfl)
  exact lp_7 _ 0 Fi La Le 0 (by omega) rf_lst_0 (fun r h => absurd h (Nat.not_lt_zero _)) (fun i0 j p _ h => absurd h (Nat.not_lt_zero _)) (Nat.lt_succ_self _) _ _ I ls (lv_sub hl [0, 1] rfl)
end
section
set_option maxHeartbeats 4000000 in
set_option maxRecDepth 20000 in
theorem c_M_runs (l : Launch) (dC : Nat → ClassId) (dI : Nat → Nat → Nat) (cA : ClassId) (a : Nat → Nat) (T Cp Fi La Le : Nat → Nat) (n fo : Nat) (hn : n ≤ 48) (hT : ∀ i, T i ≤ 3) : M_Mi l dC dI cA a y_M_runs b_M_runs 1 (some .int) (rmL 4) [] (T, Cp, Fi, La, Le, n, fo) (fun r u => rf_aRuns T n r ∧ M_ok T n u) := by
  refine M_meti (by decide) rfl (Nat.le_of_ble_eq_true rfl) ?_
  intro zp ze zs zm za zb zt zc A Q S I hret ls hl
  have hl : lv_has ls 1 [(0, .ref (a 0))] := hl
  have hx := S.1
  have hb := S.2.1
  refine lv_aload_n (pc := 0) hx hb d_M_runs_0 rfl (lv_at hl 0 rfl) ?_
  refine M_callv (pc := 1) (rest := []) [] S (c_M_list l dC dI cA a T Cp Fi La Le n fo hn hT) k_M_M_list e_M_list rfl rfl ⟨Nat.le_of_ble_eq_true rfl, Nat.le_of_ble_eq_true rfl⟩ I rfl hl.1 rfl (Nat.le_of_ble_eq_true rfl) d_M_runs_1 (fun u H locs hw I => ?_)
  obtain ⟨Fi', La', Le', fo', hall, rfl⟩ := hw
  have hfo := rf_lst_le hall.1
  refine lv_aload_n (pc := 4) hx hb d_M_runs_4 rfl (lv_at hl 0 rfl) ?_
  refine M_get_found (pc := 5) S I d_M_runs_5 ?_
  exact hret _ _ _ _ _ _ I d_M_runs_8 ⟨⟨fo', Fi', La', Le', hall, rfl⟩, ⟨Cp, Fi', La', Le', fo', rfl⟩⟩
set_option maxHeartbeats 4000000 in
set_option maxRecDepth 20000 in
theorem c_M_start (l : Launch) (dC : Nat → ClassId) (dI : Nat → Nat → Nat) (cA : ClassId) (a : Nat → Nat) (T Cp Fi La Le : Nat → Nat) (n fo : Nat) (p0 : Int32) (hn : n ≤ 48) (hT : ∀ i, T i ≤ 3) : M_Mi l dC dI cA a y_M_start b_M_start 2 (some .int) (rmL 4) [.int (p0)] (T, Cp, Fi, La, Le, n, fo) (fun r u => rf_aSta T n p0 r ∧ M_ok T n u) := by
  refine M_meti (by decide) rfl (Nat.le_of_ble_eq_true rfl) ?_
  intro zp ze zs zm za zb zt zc A Q S I hret ls hl
  have hl : lv_has ls 2 [(0, .ref (a 0)), (1, .int (p0))] := hl
  have hx := S.1
  have hb := S.2.1
  refine lv_aload_n (pc := 0) hx hb d_M_start_0 rfl (lv_at hl 0 rfl) ?_
  refine M_callv (pc := 1) (rest := []) [] S (c_M_list l dC dI cA a T Cp Fi La Le n fo hn hT) k_M_M_list e_M_list rfl rfl ⟨Nat.le_of_ble_eq_true rfl, Nat.le_of_ble_eq_true rfl⟩ I rfl hl.1 rfl (Nat.le_of_ble_eq_true rfl) d_M_start_1 (fun u H locs hw I => ?_)
  obtain ⟨Fi', La', Le', fo', hall, rfl⟩ := hw
  have hfo := rf_lst_le hall.1
  refine lv_iload_n (pc := 4) hx hb d_M_start_4 rfl (lv_at hl 1 rfl) ?_
  refine ri_if_lt (pc := 5) (tgt := 16) hx hb d_M_start_5 (by decide) (fun c_5 => ?_) (fun c_5 => ?_)
  · refine lv_iconst (pc := 16) (v := -1) hx hb d_M_start_16 (by decide) ?_
    refine lv_goto (pc := 17) (tgt := 26) hx hb d_M_start_17 (by decide) ?_
    exact hret _ _ _ _ _ _ I d_M_start_26 ⟨⟨fo', Fi', La', Le', hall, Or.inl ⟨by unfold rf_pl; omega, rfl⟩⟩, ⟨Cp, Fi', La', Le', fo', rfl⟩⟩
  · refine lv_iload_n (pc := 8) hx hb d_M_start_8 rfl (lv_at hl 1 rfl) ?_
    refine lv_aload_n (pc := 9) hx hb d_M_start_9 rfl (lv_at hl 0 rfl) ?_
    refine M_get_found (pc := 10) S I d_M_start_10 ?_
    refine ri_icmp_lt (pc := 13) (tgt := 20) hx hb (by omega) d_M_start_13 (by decide) (fun c_13 => ?_) (fun c_13 => ?_)
    · obtain ⟨j, hj0, rfl⟩ := ri_nat (x := p0) c_5
      rw [ri_toI hj0] at c_13
      refine lv_aload_n (pc := 20) hx hb d_M_start_20 rfl (lv_at hl 0 rfl) ?_
      refine M_get_first (pc := 21) S I d_M_start_21 ?_
      refine lv_iload_n (pc := 24) hx hb d_M_start_24 rfl (lv_at hl 1 rfl) ?_
      refine M_ald3 (pc := 25) S I (by omega) d_M_start_25 ?_
      exact hret _ _ _ _ _ _ I d_M_start_26 ⟨⟨fo', Fi', La', Le', hall, Or.inr ⟨j, rfl, by omega, rfl⟩⟩, ⟨Cp, Fi', La', Le', fo', rfl⟩⟩
    · refine lv_iconst (pc := 16) (v := -1) hx hb d_M_start_16 (by decide) ?_
      refine lv_goto (pc := 17) (tgt := 26) hx hb d_M_start_17 (by decide) ?_
      exact hret _ _ _ _ _ _ I d_M_start_26 ⟨⟨fo', Fi', La', Le', hall, Or.inl ⟨by unfold rf_pl; omega, rfl⟩⟩, ⟨Cp, Fi', La', Le', fo', rfl⟩⟩
set_option maxHeartbeats 4000000 in
set_option maxRecDepth 20000 in
theorem c_M_end (l : Launch) (dC : Nat → ClassId) (dI : Nat → Nat → Nat) (cA : ClassId) (a : Nat → Nat) (T Cp Fi La Le : Nat → Nat) (n fo : Nat) (p0 : Int32) (hn : n ≤ 48) (hT : ∀ i, T i ≤ 3) : M_Mi l dC dI cA a y_M_end b_M_end 2 (some .int) (rmL 4) [.int (p0)] (T, Cp, Fi, La, Le, n, fo) (fun r u => rf_aEnd T n p0 r ∧ M_ok T n u) := by
  refine M_meti (by decide) rfl (Nat.le_of_ble_eq_true rfl) ?_
  intro zp ze zs zm za zb zt zc A Q S I hret ls hl
  have hl : lv_has ls 2 [(0, .ref (a 0)), (1, .int (p0))] := hl
  have hx := S.1
  have hb := S.2.1
  refine lv_aload_n (pc := 0) hx hb d_M_end_0 rfl (lv_at hl 0 rfl) ?_
  refine M_callv (pc := 1) (rest := []) [] S (c_M_list l dC dI cA a T Cp Fi La Le n fo hn hT) k_M_M_list e_M_list rfl rfl ⟨Nat.le_of_ble_eq_true rfl, Nat.le_of_ble_eq_true rfl⟩ I rfl hl.1 rfl (Nat.le_of_ble_eq_true rfl) d_M_end_1 (fun u H locs hw I => ?_)
  obtain ⟨Fi', La', Le', fo', hall, rfl⟩ := hw
  have hfo := rf_lst_le hall.1
  refine lv_iload_n (pc := 4) hx hb d_M_end_4 rfl (lv_at hl 1 rfl) ?_
  refine ri_if_lt (pc := 5) (tgt := 16) hx hb d_M_end_5 (by decide) (fun c_5 => ?_) (fun c_5 => ?_)
  · refine lv_iconst (pc := 16) (v := -1) hx hb d_M_end_16 (by decide) ?_
    refine lv_goto (pc := 17) (tgt := 26) hx hb d_M_end_17 (by decide) ?_
    exact hret _ _ _ _ _ _ I d_M_end_26 ⟨⟨fo', Fi', La', Le', hall, Or.inl ⟨by unfold rf_pl; omega, rfl⟩⟩, ⟨Cp, Fi', La', Le', fo', rfl⟩⟩
  · refine lv_iload_n (pc := 8) hx hb d_M_end_8 rfl (lv_at hl 1 rfl) ?_
    refine lv_aload_n (pc := 9) hx hb d_M_end_9 rfl (lv_at hl 0 rfl) ?_
    refine M_get_found (pc := 10) S I d_M_end_10 ?_
    refine ri_icmp_lt (pc := 13) (tgt := 20) hx hb (by omega) d_M_end_13 (by decide) (fun c_13 => ?_) (fun c_13 => ?_)
    · obtain ⟨j, hj0, rfl⟩ := ri_nat (x := p0) c_5
      rw [ri_toI hj0] at c_13
      refine lv_aload_n (pc := 20) hx hb d_M_end_20 rfl (lv_at hl 0 rfl) ?_
      refine M_get_last (pc := 21) S I d_M_end_21 ?_
      refine lv_iload_n (pc := 24) hx hb d_M_end_24 rfl (lv_at hl 1 rfl) ?_
      refine M_ald4 (pc := 25) S I (by omega) d_M_end_25 ?_
      exact hret _ _ _ _ _ _ I d_M_end_26 ⟨⟨fo', Fi', La', Le', hall, Or.inr ⟨j, rfl, by omega, rfl⟩⟩, ⟨Cp, Fi', La', Le', fo', rfl⟩⟩
    · refine lv_iconst (pc := 16) (v := -1) hx hb d_M_end_16 (by decide) ?_
      refine lv_goto (pc := 17) (tgt := 26) hx hb d_M_end_17 (by decide) ?_
      exact hret _ _ _ _ _ _ I d_M_end_26 ⟨⟨fo', Fi', La', Le', hall, Or.inl ⟨by unfold rf_pl; omega, rfl⟩⟩, ⟨Cp, Fi', La', Le', fo', rfl⟩⟩
set_option maxHeartbeats 4000000 in
set_option maxRecDepth 20000 in
theorem c_M_period (l : Launch) (dC : Nat → ClassId) (dI : Nat → Nat → Nat) (cA : ClassId) (a : Nat → Nat) (T Cp Fi La Le : Nat → Nat) (n fo : Nat) (p0 : Int32) (hn : n ≤ 48) (hT : ∀ i, T i ≤ 3) : M_Mi l dC dI cA a y_M_period b_M_period 2 (some .int) (rmL 4) [.int (p0)] (T, Cp, Fi, La, Le, n, fo) (fun r u => rf_aPer T n p0 r ∧ M_ok T n u) := by
  refine M_meti (by decide) rfl (Nat.le_of_ble_eq_true rfl) ?_
  intro zp ze zs zm za zb zt zc A Q S I hret ls hl
  have hl : lv_has ls 2 [(0, .ref (a 0)), (1, .int (p0))] := hl
  have hx := S.1
  have hb := S.2.1
  refine lv_aload_n (pc := 0) hx hb d_M_period_0 rfl (lv_at hl 0 rfl) ?_
  refine M_callv (pc := 1) (rest := []) [] S (c_M_list l dC dI cA a T Cp Fi La Le n fo hn hT) k_M_M_list e_M_list rfl rfl ⟨Nat.le_of_ble_eq_true rfl, Nat.le_of_ble_eq_true rfl⟩ I rfl hl.1 rfl (Nat.le_of_ble_eq_true rfl) d_M_period_1 (fun u H locs hw I => ?_)
  obtain ⟨Fi', La', Le', fo', hall, rfl⟩ := hw
  have hfo := rf_lst_le hall.1
  refine lv_iload_n (pc := 4) hx hb d_M_period_4 rfl (lv_at hl 1 rfl) ?_
  refine ri_if_lt (pc := 5) (tgt := 16) hx hb d_M_period_5 (by decide) (fun c_5 => ?_) (fun c_5 => ?_)
  · refine lv_iconst (pc := 16) (v := -1) hx hb d_M_period_16 (by decide) ?_
    refine lv_goto (pc := 17) (tgt := 26) hx hb d_M_period_17 (by decide) ?_
    exact hret _ _ _ _ _ _ I d_M_period_26 ⟨⟨fo', Fi', La', Le', hall, Or.inl ⟨by unfold rf_pl; omega, rfl⟩⟩, ⟨Cp, Fi', La', Le', fo', rfl⟩⟩
  · refine lv_iload_n (pc := 8) hx hb d_M_period_8 rfl (lv_at hl 1 rfl) ?_
    refine lv_aload_n (pc := 9) hx hb d_M_period_9 rfl (lv_at hl 0 rfl) ?_
    refine M_get_found (pc := 10) S I d_M_period_10 ?_
    refine ri_icmp_lt (pc := 13) (tgt := 20) hx hb (by omega) d_M_period_13 (by decide) (fun c_13 => ?_) (fun c_13 => ?_)
    · obtain ⟨j, hj0, rfl⟩ := ri_nat (x := p0) c_5
      rw [ri_toI hj0] at c_13
      refine lv_aload_n (pc := 20) hx hb d_M_period_20 rfl (lv_at hl 0 rfl) ?_
      refine M_get_least (pc := 21) S I d_M_period_21 ?_
      refine lv_iload_n (pc := 24) hx hb d_M_period_24 rfl (lv_at hl 1 rfl) ?_
      refine M_ald5 (pc := 25) S I (by omega) d_M_period_25 ?_
      exact hret _ _ _ _ _ _ I d_M_period_26 ⟨⟨fo', Fi', La', Le', hall, Or.inr ⟨j, rfl, by omega, rfl⟩⟩, ⟨Cp, Fi', La', Le', fo', rfl⟩⟩
    · refine lv_iconst (pc := 16) (v := -1) hx hb d_M_period_16 (by decide) ?_
      refine lv_goto (pc := 17) (tgt := 26) hx hb d_M_period_17 (by decide) ?_
      exact hret _ _ _ _ _ _ I d_M_period_26 ⟨⟨fo', Fi', La', Le', hall, Or.inl ⟨by unfold rf_pl; omega, rfl⟩⟩, ⟨Cp, Fi', La', Le', fo', rfl⟩⟩
set_option maxHeartbeats 4000000 in
set_option maxRecDepth 20000 in
theorem c_M_runsAt (l : Launch) (dC : Nat → ClassId) (dI : Nat → Nat → Nat) (cA : ClassId) (a : Nat → Nat) (T Cp Fi La Le : Nat → Nat) (n fo : Nat) (p0 : Int32) (hn : n ≤ 48) (hT : ∀ i, T i ≤ 3) : M_Mi l dC dI cA a y_M_runsAt b_M_runsAt 4 (some .int) (rmL 4) [.int (p0)] (T, Cp, Fi, La, Le, n, fo) (fun r u => rf_aRAt T n p0 r ∧ M_ok T n u) := by
  refine M_meti (by decide) rfl (Nat.le_of_ble_eq_true rfl) ?_
  intro zp ze zs zm za zb zt zc A Q S I hret ls hl
  have hl : lv_has ls 4 [(0, .ref (a 0)), (1, .int (p0))] := hl
  have hx := S.1
  have hb := S.2.1
  refine lv_aload_n (pc := 0) hx hb d_M_runsAt_0 rfl (lv_at hl 0 rfl) ?_
  refine lv_iload_n (pc := 1) hx hb d_M_runsAt_1 rfl (lv_at hl 1 rfl) ?_
  refine M_calli (pc := 2) (rest := []) [.int (p0)] S (c_M_bad l dC dI cA a T Cp Fi La Le n fo p0 hn) k_M_M_bad e_M_bad rfl rfl ⟨Nat.le_of_ble_eq_true rfl, Nat.le_of_ble_eq_true rfl⟩ I rfl hl.1 rfl (Nat.le_of_ble_eq_true rfl) d_M_runsAt_2 (fun r u H locs hw I => ?_)
  obtain ⟨z, rfl, hz, ez, rfl⟩ := hw
  refine nr_if_eq (pc := 5) (tgt := 10) hx hb (by omega) d_M_runsAt_5 (by decide) (fun c_5 => ?_) (fun c_5 => ?_)
  · have hpf := ez.mp c_5
    obtain ⟨f, hf0, rfl⟩ := ri_nat hpf.1
    have hf := hpf.2
    rw [ri_toI hf0] at hf
    refine lv_aload_n (pc := 10) hx hb d_M_runsAt_10 rfl (lv_at hl 0 rfl) ?_
    refine M_callv (pc := 11) (rest := []) [] S (c_M_list l dC dI cA a T Cp Fi La Le n fo hn hT) k_M_M_list e_M_list rfl rfl ⟨Nat.le_of_ble_eq_true rfl, Nat.le_of_ble_eq_true rfl⟩ I rfl hl.1 rfl (Nat.le_of_ble_eq_true rfl) d_M_runsAt_11 (fun u H locs hw I => ?_)
    obtain ⟨Fi', La', Le', fo', hall, rfl⟩ := hw
    have hfo := rf_lst_le hall.1
    refine nr_iconst (pc := 14) hx hb 0 rfl d_M_runsAt_14 ?_
    refine lv_istore_n (pc := 15) (lv' := [(2, .int (nI (0))), (0, .ref (a 0)), (1, .int (nI (f)))]) hx hb d_M_runsAt_15 rfl hl (by decide) rfl (fun ls hl => ?_)
    refine nr_iconst (pc := 16) hx hb 0 rfl d_M_runsAt_16 ?_
    refine lv_istore_n (pc := 17) (lv' := [(3, .int (nI (0))), (2, .int (nI (0))), (0, .ref (a 0)), (1, .int (nI (f)))]) hx hb d_M_runsAt_17 rfl hl (by decide) rfl (fun ls hl => ?_)
    have lp_18 : ∀ (fu : Nat) (sm : Nat) (x : Nat), (x ≤ fo') → (sm = rf_sum (fun x => rf_ind (Fi' x ≤ f ∧ f ≤ La' x)) x) → fo' - x < fu → ∀ (H : Heap) (locs : List Loc), M_I dC dI cA a A zs zs.heap H locs (T, Cp, Fi', La', Le', n, fo') → ∀ ls : Array Slot, lv_has ls 4 [(3, .int (nI (x))), (2, .int (nI (sm))), (0, .ref (a 0)), (1, .int (nI (f)))] → W zp l ze (rmL 4) zs zm za zb zt zc H locs 0 0 Q (F0 zm 18 ls []) := by
      intro fu
      induction fu with
      | zero =>
        intro sm x hxr hs hfu
        exact absurd hfu (Nat.not_lt_zero _)
      | succ fu ih_18 =>
        intro sm x hxr hs hfu H locs I ls hl
        refine lv_iload_n (pc := 18) hx hb d_M_runsAt_18 rfl (lv_at hl 0 rfl) ?_
        refine lv_aload_n (pc := 19) hx hb d_M_runsAt_19 rfl (lv_at hl 2 rfl) ?_
        refine M_get_found (pc := 20) S I d_M_runsAt_20 ?_
        refine nr_icmp_ge (pc := 23) (tgt := 61) hx hb (by omega) (by omega) d_M_runsAt_23 (by decide) (fun c_23 => ?_) (fun c_23 => ?_)
        · refine lv_iload_n (pc := 61) hx hb d_M_runsAt_61 rfl (lv_at hl 1 rfl) ?_
          exact hret _ _ _ _ _ _ I d_M_runsAt_62 ⟨Or.inr ⟨f, rfl, by omega, fo', Fi', La', Le', hall, by rw [hs, show x = fo' by omega]⟩, ⟨Cp, Fi', La', Le', fo', rfl⟩⟩
        · obtain ⟨hR0, hR1, hR2⟩ := rf_run_b (hall.1.1 x c_23)
          refine lv_iload_n (pc := 26) hx hb d_M_runsAt_26 rfl (lv_at hl 0 rfl) ?_
          refine nr_bipush (pc := 27) hx hb 96 (by decide) d_M_runsAt_27 ?_
          refine nr_icmp_ge (pc := 29) (tgt := 61) hx hb (by omega) (by decide) d_M_runsAt_29 (by decide) (fun c_29 => ?_) (fun c_29 => ?_)
          · exact absurd c_29 (by omega)
          · refine lv_aload_n (pc := 32) hx hb d_M_runsAt_32 rfl (lv_at hl 2 rfl) ?_
            refine M_get_first (pc := 33) S I d_M_runsAt_33 ?_
            refine lv_iload_n (pc := 36) hx hb d_M_runsAt_36 rfl (lv_at hl 0 rfl) ?_
            refine M_ald3 (pc := 37) S I (by omega) d_M_runsAt_37 ?_
            refine lv_iload_n (pc := 38) hx hb d_M_runsAt_38 rfl (lv_at hl 3 rfl) ?_
            refine nr_icmp_gt (pc := 39) (tgt := 55) hx hb (by omega) (by omega) d_M_runsAt_39 (by decide) (fun c_39 => ?_) (fun c_39 => ?_)
            · refine nr_iinc (pc := 55) (lv' := [(3, .int (nI (x + 1))), (2, .int (nI (sm))), (0, .ref (a 0)), (1, .int (nI (f)))]) hx hb d_M_runsAt_55 hl (d := 1) rfl (k := 0) rfl (by decide) rfl (fun ls hl => ?_)
              refine lv_goto (pc := 58) (tgt := 18) hx hb d_M_runsAt_58 (by decide) ?_
              exact ih_18 sm (x + 1) (by omega) (rf_cnt_f hs (by omega)) (by omega) _ _ I ls (lv_sub hl [0, 1, 2, 3] rfl)
            · refine lv_iload_n (pc := 42) hx hb d_M_runsAt_42 rfl (lv_at hl 3 rfl) ?_
              refine lv_aload_n (pc := 43) hx hb d_M_runsAt_43 rfl (lv_at hl 2 rfl) ?_
              refine M_get_last (pc := 44) S I d_M_runsAt_44 ?_
              refine lv_iload_n (pc := 47) hx hb d_M_runsAt_47 rfl (lv_at hl 0 rfl) ?_
              refine M_ald4 (pc := 48) S I (by omega) d_M_runsAt_48 ?_
              refine nr_icmp_gt (pc := 49) (tgt := 55) hx hb (by omega) (by omega) d_M_runsAt_49 (by decide) (fun c_49 => ?_) (fun c_49 => ?_)
              · refine nr_iinc (pc := 55) (lv' := [(3, .int (nI (x + 1))), (2, .int (nI (sm))), (0, .ref (a 0)), (1, .int (nI (f)))]) hx hb d_M_runsAt_55 hl (d := 1) rfl (k := 0) rfl (by decide) rfl (fun ls hl => ?_)
                refine lv_goto (pc := 58) (tgt := 18) hx hb d_M_runsAt_58 (by decide) ?_
                exact ih_18 sm (x + 1) (by omega) (rf_cnt_f hs (by omega)) (by omega) _ _ I ls (lv_sub hl [0, 1, 2, 3] rfl)
              · refine nr_iinc (pc := 52) (lv' := [(2, .int (nI (sm + 1))), (3, .int (nI (x))), (0, .ref (a 0)), (1, .int (nI (f)))]) hx hb d_M_runsAt_52 hl (d := 1) rfl (k := 1) rfl (by decide) rfl (fun ls hl => ?_)
                refine nr_iinc (pc := 55) (lv' := [(3, .int (nI (x + 1))), (2, .int (nI (sm + 1))), (0, .ref (a 0)), (1, .int (nI (f)))]) hx hb d_M_runsAt_55 hl (d := 1) rfl (k := 1) rfl (by decide) rfl (fun ls hl => ?_)
                refine lv_goto (pc := 58) (tgt := 18) hx hb d_M_runsAt_58 (by decide) ?_
                exact ih_18 (sm + 1) (x + 1) (by omega) (rf_cnt_t hs (by omega)) (by omega) _ _ I ls (lv_sub hl [0, 1, 2, 3] rfl)
    exact lp_18 _ 0 0 (by omega) rfl (Nat.lt_succ_self _) _ _ I ls (lv_sub hl [0, 1, 2, 3] rfl)
  · refine lv_iconst (pc := 8) (v := -1) hx hb d_M_runsAt_8 (by decide) ?_
    exact hret _ _ _ _ _ _ I d_M_runsAt_9 ⟨Or.inl ⟨fun w => c_5 (ez.mpr w), rfl⟩, ⟨Cp, Fi, La, Le, fo, rfl⟩⟩
set_option maxHeartbeats 4000000 in
set_option maxRecDepth 20000 in
theorem c_M_squaresFrom (l : Launch) (dC : Nat → ClassId) (dI : Nat → Nat → Nat) (cA : ClassId) (a : Nat → Nat) (T Cp Fi La Le : Nat → Nat) (n fo : Nat) (p0 : Int32) (hn : n ≤ 48) (hT : ∀ i, T i ≤ 3) : M_Mi l dC dI cA a y_M_squaresFrom b_M_squaresFrom 4 (some .int) (rmL 2) [.int (p0)] (T, Cp, Fi, La, Le, n, fo) (fun r u => rf_aSqF T n p0 r ∧ M_ok T n u) := by
  refine M_meti (by decide) rfl (Nat.le_of_ble_eq_true rfl) ?_
  intro zp ze zs zm za zb zt zc A Q S I hret ls hl
  have hl : lv_has ls 4 [(0, .ref (a 0)), (1, .int (p0))] := hl
  have hx := S.1
  have hb := S.2.1
  refine lv_aload_n (pc := 0) hx hb d_M_squaresFrom_0 rfl (lv_at hl 0 rfl) ?_
  refine lv_iload_n (pc := 1) hx hb d_M_squaresFrom_1 rfl (lv_at hl 1 rfl) ?_
  refine M_calli (pc := 2) (rest := []) [.int (p0)] S (c_M_bad l dC dI cA a T Cp Fi La Le n fo p0 hn) k_M_M_bad e_M_bad rfl rfl ⟨Nat.le_of_ble_eq_true rfl, Nat.le_of_ble_eq_true rfl⟩ I rfl hl.1 rfl (Nat.le_of_ble_eq_true rfl) d_M_squaresFrom_2 (fun r u H locs hw I => ?_)
  obtain ⟨z, rfl, hz, ez, rfl⟩ := hw
  refine nr_if_eq (pc := 5) (tgt := 10) hx hb (by omega) d_M_squaresFrom_5 (by decide) (fun c_5 => ?_) (fun c_5 => ?_)
  · have hpf := ez.mp c_5
    obtain ⟨f, hf0, rfl⟩ := ri_nat hpf.1
    have hf := hpf.2
    rw [ri_toI hf0] at hf
    refine nr_iconst (pc := 10) hx hb 0 rfl d_M_squaresFrom_10 ?_
    refine lv_istore_n (pc := 11) (lv' := [(2, .int (nI (0))), (0, .ref (a 0)), (1, .int (nI (f)))]) hx hb d_M_squaresFrom_11 rfl hl (by decide) rfl (fun ls hl => ?_)
    refine nr_iconst (pc := 12) hx hb 1 rfl d_M_squaresFrom_12 ?_
    refine lv_istore_n (pc := 13) (lv' := [(3, .int (nI (1))), (2, .int (nI (0))), (0, .ref (a 0)), (1, .int (nI (f)))]) hx hb d_M_squaresFrom_13 rfl hl (by decide) rfl (fun ls hl => ?_)
    have lp_14 : ∀ (fu : Nat) (sm : Nat) (p : Nat), (1 ≤ p) → (f + 2 * p ≤ n + 2) → (sm = rf_sum (fun p => rf_ind (f + 2 * p ≤ n ∧ rf_lp T f (f + 2 * p) p)) p) → n + 2 - p < fu → ∀ (H : Heap) (locs : List Loc), M_I dC dI cA a A zs zs.heap H locs (T, Cp, Fi, La, Le, n, fo) → ∀ ls : Array Slot, lv_has ls 4 [(3, .int (nI (p))), (2, .int (nI (sm))), (0, .ref (a 0)), (1, .int (nI (f)))] → W zp l ze (rmL 2) zs zm za zb zt zc H locs 0 0 Q (F0 zm 14 ls []) := by
      intro fu
      induction fu with
      | zero =>
        intro sm p hp1 hpb hs hfu
        exact absurd hfu (Nat.not_lt_zero _)
      | succ fu ih_14 =>
        intro sm p hp1 hpb hs hfu H locs I ls hl
        refine lv_iload_n (pc := 14) hx hb d_M_squaresFrom_14 rfl (lv_at hl 3 rfl) ?_
        refine nr_iconst (pc := 15) hx hb 2 rfl d_M_squaresFrom_15 ?_
        refine lv_iload_n (pc := 16) hx hb d_M_squaresFrom_16 rfl (lv_at hl 0 rfl) ?_
        refine nr_imul (pc := 17) hx hb d_M_squaresFrom_17 ?_
        refine nr_iadd (pc := 18) hx hb d_M_squaresFrom_18 ?_
        refine lv_aload_n (pc := 19) hx hb d_M_squaresFrom_19 rfl (lv_at hl 2 rfl) ?_
        refine M_get_length (pc := 20) S I d_M_squaresFrom_20 ?_
        refine nr_icmp_gt (pc := 23) (tgt := 51) hx hb (by omega) (by omega) d_M_squaresFrom_23 (by decide) (fun c_23 => ?_) (fun c_23 => ?_)
        · refine lv_iload_n (pc := 51) hx hb d_M_squaresFrom_51 rfl (lv_at hl 1 rfl) ?_
          exact hret _ _ _ _ _ _ I d_M_squaresFrom_52 ⟨Or.inr ⟨f, rfl, by omega, by rw [hs, rf_sum_tail (a := p) (n + 1) (fun x hx => rf_ind_f (by omega)) (by omega)]⟩, ⟨Cp, Fi, La, Le, fo, rfl⟩⟩
        · refine lv_aload_n (pc := 26) hx hb d_M_squaresFrom_26 rfl (lv_at hl 2 rfl) ?_
          refine lv_iload_n (pc := 27) hx hb d_M_squaresFrom_27 rfl (lv_at hl 3 rfl) ?_
          refine lv_iload_n (pc := 28) hx hb d_M_squaresFrom_28 rfl (lv_at hl 3 rfl) ?_
          refine nr_iconst (pc := 29) hx hb 2 rfl d_M_squaresFrom_29 ?_
          refine lv_iload_n (pc := 30) hx hb d_M_squaresFrom_30 rfl (lv_at hl 0 rfl) ?_
          refine nr_imul (pc := 31) hx hb d_M_squaresFrom_31 ?_
          refine nr_iadd (pc := 32) hx hb d_M_squaresFrom_32 ?_
          refine nr_iconst (pc := 33) hx hb 1 rfl d_M_squaresFrom_33 ?_
          refine nr_isub (pc := 34) hx hb (by omega) d_M_squaresFrom_34 ?_
          refine M_calli (pc := 35) (rest := []) [.int (nI (f)), .int (nI ((f + (2 * p)) - 1))] S (c_M_leastPeriod l dC dI cA a T Cp Fi La Le n fo f (f + 2 * p - 1) hT (by omega) (by omega)) k_M_M_leastPeriod e_M_leastPeriod rfl rfl ⟨Nat.le_of_ble_eq_true rfl, Nat.le_of_ble_eq_true rfl⟩ I rfl hl.1 rfl (Nat.le_of_ble_eq_true rfl) d_M_squaresFrom_35 (fun r u H locs hw I => ?_)
          obtain ⟨q, rfl, hq, rfl⟩ := hw
          have hqb := hq.2.1
          rw [show f + 2 * p - 1 + 1 = f + 2 * p by omega] at hq hqb
          refine lv_iload_n (pc := 38) hx hb d_M_squaresFrom_38 rfl (lv_at hl 0 rfl) ?_
          refine nr_icmp_ne (pc := 39) (tgt := 45) hx hb (by omega) (by omega) d_M_squaresFrom_39 (by decide) (fun c_39 => ?_) (fun c_39 => ?_)
          · refine nr_iinc (pc := 45) (lv' := [(3, .int (nI (p + 1))), (2, .int (nI (sm))), (0, .ref (a 0)), (1, .int (nI (f)))]) hx hb d_M_squaresFrom_45 hl (d := 1) rfl (k := 0) rfl (by decide) rfl (fun ls hl => ?_)
            refine lv_goto (pc := 48) (tgt := 14) hx hb d_M_squaresFrom_48 (by decide) ?_
            exact ih_14 sm (p + 1) (by omega) (by omega) (rf_cnt_f hs (fun w => c_39 (rf_lp_u hq w.2))) (by omega) _ _ I ls (lv_sub hl [0, 1, 2, 3] rfl)
          · refine nr_iinc (pc := 42) (lv' := [(2, .int (nI (sm + 1))), (3, .int (nI (p))), (0, .ref (a 0)), (1, .int (nI (f)))]) hx hb d_M_squaresFrom_42 hl (d := 1) rfl (k := 1) rfl (by decide) rfl (fun ls hl => ?_)
            refine nr_iinc (pc := 45) (lv' := [(3, .int (nI (p + 1))), (2, .int (nI (sm + 1))), (0, .ref (a 0)), (1, .int (nI (f)))]) hx hb d_M_squaresFrom_45 hl (d := 1) rfl (k := 1) rfl (by decide) rfl (fun ls hl => ?_)
            refine lv_goto (pc := 48) (tgt := 14) hx hb d_M_squaresFrom_48 (by decide) ?_
            exact ih_14 (sm + 1) (p + 1) (by omega) (by omega) (rf_cnt_t hs ⟨by omega, by rw [c_39] at hq; exact hq⟩) (by omega) _ _ I ls (lv_sub hl [0, 1, 2, 3] rfl)
    exact lp_14 _ 0 1 (by omega) (by omega) (rf_sum_1 (rf_ind_f (fun w => absurd w.2.1 (by omega)))) (Nat.lt_succ_self _) _ _ I ls (lv_sub hl [0, 1, 2, 3] rfl)
  · refine lv_iconst (pc := 8) (v := -1) hx hb d_M_squaresFrom_8 (by decide) ?_
    exact hret _ _ _ _ _ _ I d_M_squaresFrom_9 ⟨Or.inl ⟨fun w => c_5 (ez.mpr w), rfl⟩, ⟨Cp, Fi, La, Le, fo, rfl⟩⟩
set_option maxHeartbeats 4000000 in
set_option maxRecDepth 20000 in
theorem c_M_squares (l : Launch) (dC : Nat → ClassId) (dI : Nat → Nat → Nat) (cA : ClassId) (a : Nat → Nat) (T Cp Fi La Le : Nat → Nat) (n fo : Nat) (hn : n ≤ 48) (hT : ∀ i, T i ≤ 3) : M_Mi l dC dI cA a y_M_squares b_M_squares 4 (some .int) (rmL 1) [] (T, Cp, Fi, La, Le, n, fo) (fun r u => rf_aSq T n r ∧ M_ok T n u) := by
  refine M_meti (by decide) rfl (Nat.le_of_ble_eq_true rfl) ?_
  intro zp ze zs zm za zb zt zc A Q S I hret ls hl
  have hl : lv_has ls 4 [(0, .ref (a 0))] := hl
  have hx := S.1
  have hb := S.2.1
  refine nr_iconst (pc := 0) hx hb 0 rfl d_M_squares_0 ?_
  refine lv_istore_n (pc := 1) (lv' := [(1, .int (nI (0))), (0, .ref (a 0))]) hx hb d_M_squares_1 rfl hl (by decide) rfl (fun ls hl => ?_)
  refine nr_iconst (pc := 2) hx hb 0 rfl d_M_squares_2 ?_
  refine lv_istore_n (pc := 3) (lv' := [(2, .int (nI (0))), (1, .int (nI (0))), (0, .ref (a 0))]) hx hb d_M_squares_3 rfl hl (by decide) rfl (fun ls hl => ?_)
  have lp_4 : ∀ (fu : Nat) (sm : Nat) (i : Nat), (i ≤ n) → (sm = rf_sum (fun i => rf_sum (fun p => rf_ind (1 ≤ p ∧ i + 2 * p ≤ n ∧ rf_per T i (i + 2 * p) p)) (n + 1)) i) → n - i < fu → ∀ (H : Heap) (locs : List Loc), M_I dC dI cA a A zs zs.heap H locs (T, Cp, Fi, La, Le, n, fo) → ∀ ls : Array Slot, lv_has ls 4 [(2, .int (nI (i))), (1, .int (nI (sm))), (0, .ref (a 0))] → W zp l ze (rmL 1) zs zm za zb zt zc H locs 0 0 Q (F0 zm 4 ls []) := by
    intro fu
    induction fu with
    | zero =>
      intro sm i hin hs hfu
      exact absurd hfu (Nat.not_lt_zero _)
    | succ fu ih_4 =>
      intro sm i hin hs hfu H locs I ls hl
      refine lv_iload_n (pc := 4) hx hb d_M_squares_4 rfl (lv_at hl 0 rfl) ?_
      refine lv_aload_n (pc := 5) hx hb d_M_squares_5 rfl (lv_at hl 2 rfl) ?_
      refine M_get_length (pc := 6) S I d_M_squares_6 ?_
      refine nr_icmp_ge (pc := 9) (tgt := 57) hx hb (by omega) (by omega) d_M_squares_9 (by decide) (fun c_9 => ?_) (fun c_9 => ?_)
      · refine lv_iload_n (pc := 57) hx hb d_M_squares_57 rfl (lv_at hl 1 rfl) ?_
        exact hret _ _ _ _ _ _ I d_M_squares_58 ⟨by unfold rf_aSq; rw [hs, show i = n by omega], ⟨Cp, Fi, La, Le, fo, rfl⟩⟩
      · refine nr_iconst (pc := 12) hx hb 1 rfl d_M_squares_12 ?_
        refine lv_istore_n (pc := 13) (lv' := [(3, .int (nI (1))), (2, .int (nI (i))), (1, .int (nI (sm))), (0, .ref (a 0))]) hx hb d_M_squares_13 rfl hl (by decide) rfl (fun ls hl => ?_)
        have lp_14 : ∀ (fu : Nat) (sm2 : Nat) (p : Nat), (1 ≤ p) → (i + 2 * p ≤ n + 2) → (sm2 = sm + rf_sum (fun p => rf_ind (1 ≤ p ∧ i + 2 * p ≤ n ∧ rf_per T i (i + 2 * p) p)) p) → n + 2 - p < fu → ∀ (H : Heap) (locs : List Loc), M_I dC dI cA a A zs zs.heap H locs (T, Cp, Fi, La, Le, n, fo) → ∀ ls : Array Slot, lv_has ls 4 [(3, .int (nI (p))), (2, .int (nI (i))), (1, .int (nI (sm2))), (0, .ref (a 0))] → W zp l ze (rmL 1) zs zm za zb zt zc H locs 0 0 Q (F0 zm 14 ls []) := by
          intro fu
          induction fu with
          | zero =>
            intro sm2 p hp1 hpb hs2 hfu
            exact absurd hfu (Nat.not_lt_zero _)
          | succ fu ih_14 =>
            intro sm2 p hp1 hpb hs2 hfu H locs I ls hl
            refine lv_iload_n (pc := 14) hx hb d_M_squares_14 rfl (lv_at hl 1 rfl) ?_
            refine nr_iconst (pc := 15) hx hb 2 rfl d_M_squares_15 ?_
            refine lv_iload_n (pc := 16) hx hb d_M_squares_16 rfl (lv_at hl 0 rfl) ?_
            refine nr_imul (pc := 17) hx hb d_M_squares_17 ?_
            refine nr_iadd (pc := 18) hx hb d_M_squares_18 ?_
            refine lv_aload_n (pc := 19) hx hb d_M_squares_19 rfl (lv_at hl 3 rfl) ?_
            refine M_get_length (pc := 20) S I d_M_squares_20 ?_
            refine nr_icmp_gt (pc := 23) (tgt := 51) hx hb (by omega) (by omega) d_M_squares_23 (by decide) (fun c_23 => ?_) (fun c_23 => ?_)
            · have hG : rf_sum (fun p => rf_ind (1 ≤ p ∧ i + 2 * p ≤ n ∧ rf_per T i (i + 2 * p) p)) (n + 1) = rf_sum (fun p => rf_ind (1 ≤ p ∧ i + 2 * p ≤ n ∧ rf_per T i (i + 2 * p) p)) p := rf_sum_tail (a := p) (n + 1) (fun x hx => rf_ind_f (by omega)) (by omega)
              refine nr_iinc (pc := 51) (lv' := [(2, .int (nI (i + 1))), (3, .int (nI (p))), (1, .int (nI (sm2))), (0, .ref (a 0))]) hx hb d_M_squares_51 hl (d := 1) rfl (k := 1) rfl (by decide) rfl (fun ls hl => ?_)
              refine lv_goto (pc := 54) (tgt := 4) hx hb d_M_squares_54 (by decide) ?_
              exact ih_4 sm2 (i + 1) (by omega) (by rw [rf_sum, ← hs, hG]; exact hs2) (by omega) _ _ I ls (lv_sub hl [0, 2, 3] rfl)
            · refine lv_aload_n (pc := 26) hx hb d_M_squares_26 rfl (lv_at hl 3 rfl) ?_
              refine lv_iload_n (pc := 27) hx hb d_M_squares_27 rfl (lv_at hl 1 rfl) ?_
              refine lv_iload_n (pc := 28) hx hb d_M_squares_28 rfl (lv_at hl 1 rfl) ?_
              refine nr_iconst (pc := 29) hx hb 2 rfl d_M_squares_29 ?_
              refine lv_iload_n (pc := 30) hx hb d_M_squares_30 rfl (lv_at hl 0 rfl) ?_
              refine nr_imul (pc := 31) hx hb d_M_squares_31 ?_
              refine nr_iadd (pc := 32) hx hb d_M_squares_32 ?_
              refine nr_iconst (pc := 33) hx hb 1 rfl d_M_squares_33 ?_
              refine nr_isub (pc := 34) hx hb (by omega) d_M_squares_34 ?_
              refine lv_iload_n (pc := 35) hx hb d_M_squares_35 rfl (lv_at hl 0 rfl) ?_
              refine M_calli (pc := 36) (rest := []) [.int (nI (i)), .int (nI ((i + (2 * p)) - 1)), .int (nI (p))] S (c_M_hasPeriod l dC dI cA a T Cp Fi La Le n fo i (i + 2 * p - 1) p hT (by omega) (by omega) (by omega) (by omega)) k_M_M_hasPeriod e_M_hasPeriod rfl rfl ⟨Nat.le_of_ble_eq_true rfl, Nat.le_of_ble_eq_true rfl⟩ I rfl hl.1 rfl (Nat.le_of_ble_eq_true rfl) d_M_squares_36 (fun r u H locs hw I => ?_)
              obtain ⟨z, rfl, hz, ez, rfl⟩ := hw
              rw [show i + 2 * p - 1 + 1 = i + 2 * p by omega] at ez
              refine nr_if_eq (pc := 39) (tgt := 45) hx hb (by omega) d_M_squares_39 (by decide) (fun c_39 => ?_) (fun c_39 => ?_)
              · refine nr_iinc (pc := 45) (lv' := [(3, .int (nI (p + 1))), (2, .int (nI (i))), (1, .int (nI (sm2))), (0, .ref (a 0))]) hx hb d_M_squares_45 hl (d := 1) rfl (k := 0) rfl (by decide) rfl (fun ls hl => ?_)
                refine lv_goto (pc := 48) (tgt := 14) hx hb d_M_squares_48 (by decide) ?_
                exact ih_14 sm2 (p + 1) (by omega) (by omega) (rf_cnb_f hs2 (fun w => (ez.mpr ⟨by omega, w.2.2⟩) c_39)) (by omega) _ _ I ls (lv_sub hl [0, 1, 2, 3] rfl)
              · refine nr_iinc (pc := 42) (lv' := [(1, .int (nI (sm2 + 1))), (3, .int (nI (p))), (2, .int (nI (i))), (0, .ref (a 0))]) hx hb d_M_squares_42 hl (d := 1) rfl (k := 2) rfl (by decide) rfl (fun ls hl => ?_)
                refine nr_iinc (pc := 45) (lv' := [(3, .int (nI (p + 1))), (1, .int (nI (sm2 + 1))), (2, .int (nI (i))), (0, .ref (a 0))]) hx hb d_M_squares_45 hl (d := 1) rfl (k := 1) rfl (by decide) rfl (fun ls hl => ?_)
                refine lv_goto (pc := 48) (tgt := 14) hx hb d_M_squares_48 (by decide) ?_
                exact ih_14 (sm2 + 1) (p + 1) (by omega) (by omega) (rf_cnb_t hs2 ⟨hp1, by omega, (ez.mp c_39).2⟩) (by omega) _ _ I ls (lv_sub hl [0, 2, 1, 3] rfl)
        exact lp_14 _ sm 1 (by omega) (by omega) (by rw [← rf_sum_1 (f := fun p => rf_ind (1 ≤ p ∧ i + 2 * p ≤ n ∧ rf_per T i (i + 2 * p) p)) (rf_ind_f (fun w => absurd w.1 (by omega)))]; rfl) (Nat.lt_succ_self _) _ _ I ls (lv_sub hl [0, 1, 2, 3] rfl)
  exact lp_4 _ 0 0 (by omega) rfl (Nat.lt_succ_self _) _ _ I ls (lv_sub hl [0, 1, 2] rfl)
set_option maxHeartbeats 4000000 in
set_option maxRecDepth 20000 in
theorem c_M_periodOf (l : Launch) (dC : Nat → ClassId) (dI : Nat → Nat → Nat) (cA : ClassId) (a : Nat → Nat) (T Cp Fi La Le : Nat → Nat) (n fo : Nat) (p0 p1 : Int32) (hn : n ≤ 48) (hT : ∀ i, T i ≤ 3) : M_Mi l dC dI cA a y_M_periodOf b_M_periodOf 4 (some .int) (rmL 2) [.int (p0), .int (p1)] (T, Cp, Fi, La, Le, n, fo) (fun r u => rf_aPOf T n p0 p1 r ∧ M_ok T n u) := by
  refine M_meti (by decide) rfl (Nat.le_of_ble_eq_true rfl) ?_
  intro zp ze zs zm za zb zt zc A Q S I hret ls hl
  have hl : lv_has ls 4 [(0, .ref (a 0)), (1, .int (p0)), (2, .int (p1))] := hl
  have hx := S.1
  have hb := S.2.1
  refine lv_aload_n (pc := 0) hx hb d_M_periodOf_0 rfl (lv_at hl 0 rfl) ?_
  refine lv_iload_n (pc := 1) hx hb d_M_periodOf_1 rfl (lv_at hl 1 rfl) ?_
  refine M_calli (pc := 2) (rest := []) [.int (p0)] S (c_M_bad l dC dI cA a T Cp Fi La Le n fo p0 hn) k_M_M_bad e_M_bad rfl rfl ⟨Nat.le_of_ble_eq_true rfl, Nat.le_of_ble_eq_true rfl⟩ I rfl hl.1 rfl (Nat.le_of_ble_eq_true rfl) d_M_periodOf_2 (fun r u H locs hw I => ?_)
  obtain ⟨z, rfl, hz, ez, rfl⟩ := hw
  refine nr_if_ne (pc := 5) (tgt := 21) hx hb (by omega) d_M_periodOf_5 (by decide) (fun c_5 => ?_) (fun c_5 => ?_)
  · refine lv_iconst (pc := 21) (v := -1) hx hb d_M_periodOf_21 (by decide) ?_
    exact hret _ _ _ _ _ _ I d_M_periodOf_22 ⟨Or.inl ⟨fun w => c_5 (ez.mpr w.1), rfl⟩, ⟨Cp, Fi, La, Le, fo, rfl⟩⟩
  · have hpi := ez.mp c_5
    obtain ⟨i, hi0, rfl⟩ := ri_nat hpi.1
    have hi := hpi.2
    rw [ri_toI hi0] at hi
    refine lv_aload_n (pc := 8) hx hb d_M_periodOf_8 rfl (lv_at hl 0 rfl) ?_
    refine lv_iload_n (pc := 9) hx hb d_M_periodOf_9 rfl (lv_at hl 2 rfl) ?_
    refine M_calli (pc := 10) (rest := []) [.int (p1)] S (c_M_bad l dC dI cA a T Cp Fi La Le n fo p1 hn) k_M_M_bad e_M_bad rfl rfl ⟨Nat.le_of_ble_eq_true rfl, Nat.le_of_ble_eq_true rfl⟩ I rfl hl.1 rfl (Nat.le_of_ble_eq_true rfl) d_M_periodOf_10 (fun r u H locs hw I => ?_)
    obtain ⟨y, rfl, hy, ey, rfl⟩ := hw
    refine nr_if_ne (pc := 13) (tgt := 21) hx hb (by omega) d_M_periodOf_13 (by decide) (fun c_13 => ?_) (fun c_13 => ?_)
    · refine lv_iconst (pc := 21) (v := -1) hx hb d_M_periodOf_21 (by decide) ?_
      exact hret _ _ _ _ _ _ I d_M_periodOf_22 ⟨Or.inl ⟨fun w => c_13 (ey.mpr w.2.1), rfl⟩, ⟨Cp, Fi, La, Le, fo, rfl⟩⟩
    · have hpj := ey.mp c_13
      obtain ⟨j, hj0, rfl⟩ := ri_nat hpj.1
      have hj := hpj.2
      rw [ri_toI hj0] at hj
      refine lv_iload_n (pc := 16) hx hb d_M_periodOf_16 rfl (lv_at hl 1 rfl) ?_
      refine lv_iload_n (pc := 17) hx hb d_M_periodOf_17 rfl (lv_at hl 2 rfl) ?_
      refine nr_icmp_le (pc := 18) (tgt := 23) hx hb (by omega) (by omega) d_M_periodOf_18 (by decide) (fun c_18 => ?_) (fun c_18 => ?_)
      · refine lv_aload_n (pc := 23) hx hb d_M_periodOf_23 rfl (lv_at hl 0 rfl) ?_
        refine lv_iload_n (pc := 24) hx hb d_M_periodOf_24 rfl (lv_at hl 1 rfl) ?_
        refine lv_iload_n (pc := 25) hx hb d_M_periodOf_25 rfl (lv_at hl 2 rfl) ?_
        refine M_calli (pc := 26) (rest := []) [.int (nI (i)), .int (nI (j))] S (c_M_leastPeriod l dC dI cA a T Cp Fi La Le n fo i j hT (by omega) (by omega)) k_M_M_leastPeriod e_M_leastPeriod rfl rfl ⟨Nat.le_of_ble_eq_true rfl, Nat.le_of_ble_eq_true rfl⟩ I rfl hl.1 rfl (Nat.le_of_ble_eq_true rfl) d_M_periodOf_26 (fun r u H locs hw I => ?_)
        obtain ⟨q, rfl, hq, rfl⟩ := hw
        have hqb := hq.2.1
        refine lv_istore_n (pc := 29) (lv' := [(3, .int (nI (q))), (0, .ref (a 0)), (1, .int (nI (i))), (2, .int (nI (j)))]) hx hb d_M_periodOf_29 rfl hl (by decide) rfl (fun ls hl => ?_)
        refine nr_iconst (pc := 30) hx hb 2 rfl d_M_periodOf_30 ?_
        refine lv_iload_n (pc := 31) hx hb d_M_periodOf_31 rfl (lv_at hl 0 rfl) ?_
        refine nr_imul (pc := 32) hx hb d_M_periodOf_32 ?_
        refine lv_iload_n (pc := 33) hx hb d_M_periodOf_33 rfl (lv_at hl 3 rfl) ?_
        refine lv_iload_n (pc := 34) hx hb d_M_periodOf_34 rfl (lv_at hl 2 rfl) ?_
        refine nr_isub (pc := 35) hx hb (by omega) d_M_periodOf_35 ?_
        refine nr_iconst (pc := 36) hx hb 1 rfl d_M_periodOf_36 ?_
        refine nr_iadd (pc := 37) hx hb d_M_periodOf_37 ?_
        refine nr_icmp_gt (pc := 38) (tgt := 45) hx hb (by omega) (by omega) d_M_periodOf_38 (by decide) (fun c_38 => ?_) (fun c_38 => ?_)
        · refine nr_iconst (pc := 45) hx hb 0 rfl d_M_periodOf_45 ?_
          exact hret _ _ _ _ _ _ I d_M_periodOf_46 ⟨Or.inr ⟨i, j, q, rfl, rfl, c_18, by omega, hq, by rw [if_neg (by omega)]⟩, ⟨Cp, Fi, La, Le, fo, rfl⟩⟩
        · refine lv_iload_n (pc := 41) hx hb d_M_periodOf_41 rfl (lv_at hl 0 rfl) ?_
          refine lv_goto (pc := 42) (tgt := 46) hx hb d_M_periodOf_42 (by decide) ?_
          exact hret _ _ _ _ _ _ I d_M_periodOf_46 ⟨Or.inr ⟨i, j, q, rfl, rfl, c_18, by omega, hq, by rw [if_pos c_38]⟩, ⟨Cp, Fi, La, Le, fo, rfl⟩⟩
      · refine lv_iconst (pc := 21) (v := -1) hx hb d_M_periodOf_21 (by decide) ?_
        exact hret _ _ _ _ _ _ I d_M_periodOf_22 ⟨Or.inl ⟨fun w => by have g := w.2.2; rw [ri_toI hi0, ri_toI hj0] at g; omega, rfl⟩, ⟨Cp, Fi, La, Le, fo, rfl⟩⟩
set_option maxHeartbeats 4000000 in
set_option maxRecDepth 20000 in
theorem c_M_longest (l : Launch) (dC : Nat → ClassId) (dI : Nat → Nat → Nat) (cA : ClassId) (a : Nat → Nat) (T Cp Fi La Le : Nat → Nat) (n fo : Nat) (hn : n ≤ 48) (hT : ∀ i, T i ≤ 3) : M_Mi l dC dI cA a y_M_longest b_M_longest 4 (some .int) (rmL 4) [] (T, Cp, Fi, La, Le, n, fo) (fun r u => rf_aLong T n r ∧ M_ok T n u) := by
  refine M_meti (by decide) rfl (Nat.le_of_ble_eq_true rfl) ?_
  intro zp ze zs zm za zb zt zc A Q S I hret ls hl
  have hl : lv_has ls 4 [(0, .ref (a 0))] := hl
  have hx := S.1
  have hb := S.2.1
  refine lv_aload_n (pc := 0) hx hb d_M_longest_0 rfl (lv_at hl 0 rfl) ?_
  refine M_callv (pc := 1) (rest := []) [] S (c_M_list l dC dI cA a T Cp Fi La Le n fo hn hT) k_M_M_list e_M_list rfl rfl ⟨Nat.le_of_ble_eq_true rfl, Nat.le_of_ble_eq_true rfl⟩ I rfl hl.1 rfl (Nat.le_of_ble_eq_true rfl) d_M_longest_1 (fun u H locs hw I => ?_)
  obtain ⟨Fi', La', Le', fo', hall, rfl⟩ := hw
  have hfo := rf_lst_le hall.1
  refine nr_iconst (pc := 4) hx hb 0 rfl d_M_longest_4 ?_
  refine lv_istore_n (pc := 5) (lv' := [(1, .int (nI (0))), (0, .ref (a 0))]) hx hb d_M_longest_5 rfl hl (by decide) rfl (fun ls hl => ?_)
  refine nr_iconst (pc := 6) hx hb 0 rfl d_M_longest_6 ?_
  refine lv_istore_n (pc := 7) (lv' := [(2, .int (nI (0))), (1, .int (nI (0))), (0, .ref (a 0))]) hx hb d_M_longest_7 rfl hl (by decide) rfl (fun ls hl => ?_)
  have lp_8 : ∀ (fu : Nat) (mx : Nat) (x : Nat), (x ≤ fo') → (mx ≤ 48) → (mx = rf_max (fun x => La' x - Fi' x + 1) x) → fo' - x < fu → ∀ (H : Heap) (locs : List Loc), M_I dC dI cA a A zs zs.heap H locs (T, Cp, Fi', La', Le', n, fo') → ∀ ls : Array Slot, lv_has ls 4 [(2, .int (nI (x))), (1, .int (nI (mx))), (0, .ref (a 0))] → W zp l ze (rmL 4) zs zm za zb zt zc H locs 0 0 Q (F0 zm 8 ls []) := by
    intro fu
    induction fu with
    | zero =>
      intro mx x hxr hmb hm hfu
      exact absurd hfu (Nat.not_lt_zero _)
    | succ fu ih_8 =>
      intro mx x hxr hmb hm hfu H locs I ls hl
      refine lv_iload_n (pc := 8) hx hb d_M_longest_8 rfl (lv_at hl 0 rfl) ?_
      refine lv_aload_n (pc := 9) hx hb d_M_longest_9 rfl (lv_at hl 2 rfl) ?_
      refine M_get_found (pc := 10) S I d_M_longest_10 ?_
      refine nr_icmp_ge (pc := 13) (tgt := 51) hx hb (by omega) (by omega) d_M_longest_13 (by decide) (fun c_13 => ?_) (fun c_13 => ?_)
      · refine lv_iload_n (pc := 51) hx hb d_M_longest_51 rfl (lv_at hl 1 rfl) ?_
        exact hret _ _ _ _ _ _ I d_M_longest_52 ⟨⟨fo', Fi', La', Le', hall, by rw [hm, show x = fo' by omega]⟩, ⟨Cp, Fi', La', Le', fo', rfl⟩⟩
      · obtain ⟨hR0, hR1, hR2⟩ := rf_run_b (hall.1.1 x c_13)
        refine lv_iload_n (pc := 16) hx hb d_M_longest_16 rfl (lv_at hl 0 rfl) ?_
        refine nr_bipush (pc := 17) hx hb 96 (by decide) d_M_longest_17 ?_
        refine nr_icmp_ge (pc := 19) (tgt := 51) hx hb (by omega) (by decide) d_M_longest_19 (by decide) (fun c_19 => ?_) (fun c_19 => ?_)
        · exact absurd c_19 (by omega)
        · refine lv_aload_n (pc := 22) hx hb d_M_longest_22 rfl (lv_at hl 2 rfl) ?_
          refine M_get_last (pc := 23) S I d_M_longest_23 ?_
          refine lv_iload_n (pc := 26) hx hb d_M_longest_26 rfl (lv_at hl 0 rfl) ?_
          refine M_ald4 (pc := 27) S I (by omega) d_M_longest_27 ?_
          refine lv_aload_n (pc := 28) hx hb d_M_longest_28 rfl (lv_at hl 2 rfl) ?_
          refine M_get_first (pc := 29) S I d_M_longest_29 ?_
          refine lv_iload_n (pc := 32) hx hb d_M_longest_32 rfl (lv_at hl 0 rfl) ?_
          refine M_ald3 (pc := 33) S I (by omega) d_M_longest_33 ?_
          refine nr_isub (pc := 34) hx hb (by omega) d_M_longest_34 ?_
          refine nr_iconst (pc := 35) hx hb 1 rfl d_M_longest_35 ?_
          refine nr_iadd (pc := 36) hx hb d_M_longest_36 ?_
          refine lv_istore_n (pc := 37) (lv' := [(3, .int (nI (((La' x) - (Fi' x)) + 1))), (2, .int (nI (x))), (1, .int (nI (mx))), (0, .ref (a 0))]) hx hb d_M_longest_37 rfl hl (by decide) rfl (fun ls hl => ?_)
          refine lv_iload_n (pc := 38) hx hb d_M_longest_38 rfl (lv_at hl 0 rfl) ?_
          refine lv_iload_n (pc := 39) hx hb d_M_longest_39 rfl (lv_at hl 2 rfl) ?_
          refine nr_icmp_le (pc := 40) (tgt := 45) hx hb (by omega) (by omega) d_M_longest_40 (by decide) (fun c_40 => ?_) (fun c_40 => ?_)
          · refine nr_iinc (pc := 45) (lv' := [(2, .int (nI (x + 1))), (3, .int (nI (((La' x) - (Fi' x)) + 1))), (1, .int (nI (mx))), (0, .ref (a 0))]) hx hb d_M_longest_45 hl (d := 1) rfl (k := 1) rfl (by decide) rfl (fun ls hl => ?_)
            refine lv_goto (pc := 48) (tgt := 8) hx hb d_M_longest_48 (by decide) ?_
            exact ih_8 mx (x + 1) (by omega) (by omega) (rf_max_f hm c_40) (by omega) _ _ I ls (lv_sub hl [0, 2, 3] rfl)
          · refine lv_iload_n (pc := 43) hx hb d_M_longest_43 rfl (lv_at hl 0 rfl) ?_
            refine lv_istore_n (pc := 44) (lv' := [(1, .int (nI (((La' x) - (Fi' x)) + 1))), (3, .int (nI (((La' x) - (Fi' x)) + 1))), (2, .int (nI (x))), (0, .ref (a 0))]) hx hb d_M_longest_44 rfl hl (by decide) rfl (fun ls hl => ?_)
            refine nr_iinc (pc := 45) (lv' := [(2, .int (nI (x + 1))), (1, .int (nI (((La' x) - (Fi' x)) + 1))), (3, .int (nI (((La' x) - (Fi' x)) + 1))), (0, .ref (a 0))]) hx hb d_M_longest_45 hl (d := 1) rfl (k := 2) rfl (by decide) rfl (fun ls hl => ?_)
            refine lv_goto (pc := 48) (tgt := 8) hx hb d_M_longest_48 (by decide) ?_
            exact ih_8 (((La' x) - (Fi' x)) + 1) (x + 1) (by omega) (by omega) (rf_max_t (f := fun x => La' x - Fi' x + 1) hm c_40) (by omega) _ _ I ls (lv_sub hl [0, 1, 3] rfl)
  exact lp_8 _ 0 0 (by omega) (by omega) rfl (Nat.lt_succ_self _) _ _ I ls (lv_sub hl [0, 1, 2] rfl)
set_option maxHeartbeats 4000000 in
set_option maxRecDepth 20000 in
theorem c_M_power (l : Launch) (dC : Nat → ClassId) (dI : Nat → Nat → Nat) (cA : ClassId) (a : Nat → Nat) (T Cp Fi La Le : Nat → Nat) (n fo : Nat) (hn : n ≤ 48) (hT : ∀ i, T i ≤ 3) : M_Mi l dC dI cA a y_M_power b_M_power 5 (some .int) (rmL 4) [] (T, Cp, Fi, La, Le, n, fo) (fun r u => rf_aPow T n r ∧ M_ok T n u) := by
  refine M_meti (by decide) rfl (Nat.le_of_ble_eq_true rfl) ?_
  intro zp ze zs zm za zb zt zc A Q S I hret ls hl
  have hl : lv_has ls 5 [(0, .ref (a 0))] := hl
  have hx := S.1
  have hb := S.2.1
  refine lv_aload_n (pc := 0) hx hb d_M_power_0 rfl (lv_at hl 0 rfl) ?_
  refine M_callv (pc := 1) (rest := []) [] S (c_M_list l dC dI cA a T Cp Fi La Le n fo hn hT) k_M_M_list e_M_list rfl rfl ⟨Nat.le_of_ble_eq_true rfl, Nat.le_of_ble_eq_true rfl⟩ I rfl hl.1 rfl (Nat.le_of_ble_eq_true rfl) d_M_power_1 (fun u H locs hw I => ?_)
  obtain ⟨Fi', La', Le', fo', hall, rfl⟩ := hw
  have hfo := rf_lst_le hall.1
  refine nr_iconst (pc := 4) hx hb 0 rfl d_M_power_4 ?_
  refine lv_istore_n (pc := 5) (lv' := [(1, .int (nI (0))), (0, .ref (a 0))]) hx hb d_M_power_5 rfl hl (by decide) rfl (fun ls hl => ?_)
  refine nr_iconst (pc := 6) hx hb 0 rfl d_M_power_6 ?_
  refine lv_istore_n (pc := 7) (lv' := [(2, .int (nI (0))), (1, .int (nI (0))), (0, .ref (a 0))]) hx hb d_M_power_7 rfl hl (by decide) rfl (fun ls hl => ?_)
  have lp_8 : ∀ (fu : Nat) (mx : Nat) (x : Nat), (x ≤ fo') → (mx ≤ 49) → (mx = rf_max (fun x => (La' x - Fi' x + 1) / Le' x) x) → fo' - x < fu → ∀ (H : Heap) (locs : List Loc), M_I dC dI cA a A zs zs.heap H locs (T, Cp, Fi', La', Le', n, fo') → ∀ ls : Array Slot, lv_has ls 5 [(2, .int (nI (x))), (1, .int (nI (mx))), (0, .ref (a 0))] → W zp l ze (rmL 4) zs zm za zb zt zc H locs 0 0 Q (F0 zm 8 ls []) := by
    intro fu
    induction fu with
    | zero =>
      intro mx x hxr hmb hm hfu
      exact absurd hfu (Nat.not_lt_zero _)
    | succ fu ih_8 =>
      intro mx x hxr hmb hm hfu H locs I ls hl
      refine lv_iload_n (pc := 8) hx hb d_M_power_8 rfl (lv_at hl 0 rfl) ?_
      refine lv_aload_n (pc := 9) hx hb d_M_power_9 rfl (lv_at hl 2 rfl) ?_
      refine M_get_found (pc := 10) S I d_M_power_10 ?_
      refine nr_icmp_ge (pc := 13) (tgt := 77) hx hb (by omega) (by omega) d_M_power_13 (by decide) (fun c_13 => ?_) (fun c_13 => ?_)
      · refine lv_iload_n (pc := 77) hx hb d_M_power_77 rfl (lv_at hl 1 rfl) ?_
        exact hret _ _ _ _ _ _ I d_M_power_78 ⟨⟨fo', Fi', La', Le', hall, by rw [hm, show x = fo' by omega]⟩, ⟨Cp, Fi', La', Le', fo', rfl⟩⟩
      · obtain ⟨hR0, hR1, hR2⟩ := rf_run_b (hall.1.1 x c_13)
        have hdl := Nat.div_le_self (La' x - Fi' x + 1) (Le' x)
        refine lv_iload_n (pc := 16) hx hb d_M_power_16 rfl (lv_at hl 0 rfl) ?_
        refine nr_bipush (pc := 17) hx hb 96 (by decide) d_M_power_17 ?_
        refine nr_icmp_ge (pc := 19) (tgt := 77) hx hb (by omega) (by decide) d_M_power_19 (by decide) (fun c_19 => ?_) (fun c_19 => ?_)
        · exact absurd c_19 (by omega)
        · refine lv_aload_n (pc := 22) hx hb d_M_power_22 rfl (lv_at hl 2 rfl) ?_
          refine M_get_least (pc := 23) S I d_M_power_23 ?_
          refine lv_iload_n (pc := 26) hx hb d_M_power_26 rfl (lv_at hl 0 rfl) ?_
          refine M_ald5 (pc := 27) S I (by omega) d_M_power_27 ?_
          refine nr_iconst (pc := 28) hx hb 1 rfl d_M_power_28 ?_
          refine nr_icmp_ge (pc := 29) (tgt := 36) hx hb (by omega) (by decide) d_M_power_29 (by decide) (fun c_29 => ?_) (fun c_29 => ?_)
          · refine lv_aload_n (pc := 36) hx hb d_M_power_36 rfl (lv_at hl 2 rfl) ?_
            refine M_get_least (pc := 37) S I d_M_power_37 ?_
            refine lv_iload_n (pc := 40) hx hb d_M_power_40 rfl (lv_at hl 0 rfl) ?_
            refine M_ald5 (pc := 41) S I (by omega) d_M_power_41 ?_
            refine lv_istore_n (pc := 42) (lv' := [(3, .int (nI (Le' x))), (2, .int (nI (x))), (1, .int (nI (mx))), (0, .ref (a 0))]) hx hb d_M_power_42 rfl hl (by decide) rfl (fun ls hl => ?_)
            refine lv_aload_n (pc := 43) hx hb d_M_power_43 rfl (lv_at hl 3 rfl) ?_
            refine M_get_last (pc := 44) S I d_M_power_44 ?_
            refine lv_iload_n (pc := 47) hx hb d_M_power_47 rfl (lv_at hl 1 rfl) ?_
            refine M_ald4 (pc := 48) S I (by omega) d_M_power_48 ?_
            refine lv_aload_n (pc := 49) hx hb d_M_power_49 rfl (lv_at hl 3 rfl) ?_
            refine M_get_first (pc := 50) S I d_M_power_50 ?_
            refine lv_iload_n (pc := 53) hx hb d_M_power_53 rfl (lv_at hl 1 rfl) ?_
            refine M_ald3 (pc := 54) S I (by omega) d_M_power_54 ?_
            refine nr_isub (pc := 55) hx hb (by omega) d_M_power_55 ?_
            refine nr_iconst (pc := 56) hx hb 1 rfl d_M_power_56 ?_
            refine nr_iadd (pc := 57) hx hb d_M_power_57 ?_
            refine lv_iload_n (pc := 58) hx hb d_M_power_58 rfl (lv_at hl 0 rfl) ?_
            refine nr_idiv (pc := 59) hx hb (by omega) (by omega) (by omega) d_M_power_59 ?_
            refine lv_istore (pc := 60) (lv' := [(4, .int (nI ((((La' x) - (Fi' x)) + 1) / (Le' x)))), (3, .int (nI (Le' x))), (2, .int (nI (x))), (1, .int (nI (mx))), (0, .ref (a 0))]) hx hb d_M_power_60 hl (by decide) rfl (fun ls hl => ?_)
            refine lv_iload (pc := 62) hx hb d_M_power_62 (lv_at hl 0 rfl) ?_
            refine lv_iload_n (pc := 64) hx hb d_M_power_64 rfl (lv_at hl 3 rfl) ?_
            refine nr_icmp_le (pc := 65) (tgt := 71) hx hb (Nat.lt_of_le_of_lt hdl (by omega)) (by omega) d_M_power_65 (by decide) (fun c_65 => ?_) (fun c_65 => ?_)
            · refine nr_iinc (pc := 71) (lv' := [(2, .int (nI (x + 1))), (4, .int (nI ((((La' x) - (Fi' x)) + 1) / (Le' x)))), (3, .int (nI (Le' x))), (1, .int (nI (mx))), (0, .ref (a 0))]) hx hb d_M_power_71 hl (d := 1) rfl (k := 2) rfl (by decide) rfl (fun ls hl => ?_)
              refine lv_goto (pc := 74) (tgt := 8) hx hb d_M_power_74 (by decide) ?_
              exact ih_8 mx (x + 1) (by omega) (by omega) (rf_max_f (f := fun x => (La' x - Fi' x + 1) / Le' x) hm c_65) (by omega) _ _ I ls (lv_sub hl [0, 3, 4] rfl)
            · refine lv_iload (pc := 68) hx hb d_M_power_68 (lv_at hl 0 rfl) ?_
              refine lv_istore_n (pc := 70) (lv' := [(1, .int (nI ((((La' x) - (Fi' x)) + 1) / (Le' x)))), (4, .int (nI ((((La' x) - (Fi' x)) + 1) / (Le' x)))), (3, .int (nI (Le' x))), (2, .int (nI (x))), (0, .ref (a 0))]) hx hb d_M_power_70 rfl hl (by decide) rfl (fun ls hl => ?_)
              refine nr_iinc (pc := 71) (lv' := [(2, .int (nI (x + 1))), (1, .int (nI ((((La' x) - (Fi' x)) + 1) / (Le' x)))), (4, .int (nI ((((La' x) - (Fi' x)) + 1) / (Le' x)))), (3, .int (nI (Le' x))), (0, .ref (a 0))]) hx hb d_M_power_71 hl (d := 1) rfl (k := 3) rfl (by decide) rfl (fun ls hl => ?_)
              refine lv_goto (pc := 74) (tgt := 8) hx hb d_M_power_74 (by decide) ?_
              exact ih_8 ((((La' x) - (Fi' x)) + 1) / (Le' x)) (x + 1) (by omega) (by omega) (rf_max_t (f := fun x => (La' x - Fi' x + 1) / Le' x) hm c_65) (by omega) _ _ I ls (lv_sub hl [0, 1, 4] rfl)
          · exact absurd c_29 (by omega)
  exact lp_8 _ 0 0 (by omega) (by omega) rfl (Nat.lt_succ_self _) _ _ I ls (lv_sub hl [0, 1, 2] rfl)
set_option maxHeartbeats 4000000 in
set_option maxRecDepth 20000 in
theorem c_M_shared (l : Launch) (dC : Nat → ClassId) (dI : Nat → Nat → Nat) (cA : ClassId) (a : Nat → Nat) (T Cp Fi La Le : Nat → Nat) (n fo : Nat) (i j : Nat) (hn : n ≤ 48) (hT : ∀ i, T i ≤ 3) (hi : i ≤ 48) (hj : j ≤ 48) : M_Mi l dC dI cA a y_M_shared b_M_shared 4 (some .int) (rmL 0) [.int (nI (i)), .int (nI (j))] (T, Cp, Fi, La, Le, n, fo) (fun r u => ∃ k : Nat, r = nI k ∧ rf_F T n i j k ∧ u = (T, Cp, Fi, La, Le, n, fo)) := by
  refine M_meti (by decide) rfl (Nat.le_of_ble_eq_true rfl) ?_
  intro zp ze zs zm za zb zt zc A Q S I hret ls hl
  have hl : lv_has ls 4 [(0, .ref (a 0)), (1, .int (nI (i))), (2, .int (nI (j)))] := hl
  have hx := S.1
  have hb := S.2.1
  refine nr_iconst (pc := 0) hx hb 0 rfl d_M_shared_0 ?_
  refine lv_istore_n (pc := 1) (lv' := [(3, .int (nI (0))), (0, .ref (a 0)), (1, .int (nI (i))), (2, .int (nI (j)))]) hx hb d_M_shared_1 rfl hl (by decide) rfl (fun ls hl => ?_)
  have lp_2 : ∀ (fu : Nat) (k : Nat), (∀ t, t < k → i + t < n ∧ j + t < n ∧ T (i + t) = T (j + t)) → (k ≤ 48) → 48 - k < fu → ∀ (H : Heap) (locs : List Loc), M_I dC dI cA a A zs zs.heap H locs (T, Cp, Fi, La, Le, n, fo) → ∀ ls : Array Slot, lv_has ls 4 [(3, .int (nI (k))), (0, .ref (a 0)), (1, .int (nI (i))), (2, .int (nI (j)))] → W zp l ze (rmL 0) zs zm za zb zt zc H locs 0 0 Q (F0 zm 2 ls []) := by
    intro fu
    induction fu with
    | zero =>
      intro k hk hkn hfu
      exact absurd hfu (Nat.not_lt_zero _)
    | succ fu ih_2 =>
      intro k hk hkn hfu H locs I ls hl
      refine lv_iload_n (pc := 2) hx hb d_M_shared_2 rfl (lv_at hl 2 rfl) ?_
      refine lv_iload_n (pc := 3) hx hb d_M_shared_3 rfl (lv_at hl 0 rfl) ?_
      refine nr_iadd (pc := 4) hx hb d_M_shared_4 ?_
      refine lv_aload_n (pc := 5) hx hb d_M_shared_5 rfl (lv_at hl 1 rfl) ?_
      refine M_get_length (pc := 6) S I d_M_shared_6 ?_
      refine nr_icmp_ge (pc := 9) (tgt := 47) hx hb (by omega) (by omega) d_M_shared_9 (by decide) (fun c_9 => ?_) (fun c_9 => ?_)
      · refine lv_iload_n (pc := 47) hx hb d_M_shared_47 rfl (lv_at hl 0 rfl) ?_
        exact hret _ _ _ _ _ _ I d_M_shared_48 ⟨_, rfl, ⟨hk, by omega⟩, rfl⟩
      · refine lv_iload_n (pc := 12) hx hb d_M_shared_12 rfl (lv_at hl 3 rfl) ?_
        refine lv_iload_n (pc := 13) hx hb d_M_shared_13 rfl (lv_at hl 0 rfl) ?_
        refine nr_iadd (pc := 14) hx hb d_M_shared_14 ?_
        refine lv_aload_n (pc := 15) hx hb d_M_shared_15 rfl (lv_at hl 1 rfl) ?_
        refine M_get_length (pc := 16) S I d_M_shared_16 ?_
        refine nr_icmp_ge (pc := 19) (tgt := 47) hx hb (by omega) (by omega) d_M_shared_19 (by decide) (fun c_19 => ?_) (fun c_19 => ?_)
        · refine lv_iload_n (pc := 47) hx hb d_M_shared_47 rfl (lv_at hl 0 rfl) ?_
          exact hret _ _ _ _ _ _ I d_M_shared_48 ⟨_, rfl, ⟨hk, by omega⟩, rfl⟩
        · refine lv_aload_n (pc := 22) hx hb d_M_shared_22 rfl (lv_at hl 1 rfl) ?_
          refine M_get_text (pc := 23) S I d_M_shared_23 ?_
          refine lv_iload_n (pc := 26) hx hb d_M_shared_26 rfl (lv_at hl 2 rfl) ?_
          refine lv_iload_n (pc := 27) hx hb d_M_shared_27 rfl (lv_at hl 0 rfl) ?_
          refine nr_iadd (pc := 28) hx hb d_M_shared_28 ?_
          refine M_ald1 (pc := 29) S I (by omega) d_M_shared_29 ?_
          refine lv_aload_n (pc := 30) hx hb d_M_shared_30 rfl (lv_at hl 1 rfl) ?_
          refine M_get_text (pc := 31) S I d_M_shared_31 ?_
          refine lv_iload_n (pc := 34) hx hb d_M_shared_34 rfl (lv_at hl 3 rfl) ?_
          refine lv_iload_n (pc := 35) hx hb d_M_shared_35 rfl (lv_at hl 0 rfl) ?_
          refine nr_iadd (pc := 36) hx hb d_M_shared_36 ?_
          refine M_ald1 (pc := 37) S I (by omega) d_M_shared_37 ?_
          refine nr_icmp_ne (pc := 38) (tgt := 47) hx hb (sm3 (hT _)) (sm3 (hT _)) d_M_shared_38 (by decide) (fun c_38 => ?_) (fun c_38 => ?_)
          · refine lv_iload_n (pc := 47) hx hb d_M_shared_47 rfl (lv_at hl 0 rfl) ?_
            exact hret _ _ _ _ _ _ I d_M_shared_48 ⟨_, rfl, ⟨hk, by omega⟩, rfl⟩
          · refine nr_iinc (pc := 41) (lv' := [(3, .int (nI (k + 1))), (0, .ref (a 0)), (1, .int (nI (i))), (2, .int (nI (j)))]) hx hb d_M_shared_41 hl (d := 1) rfl (k := 0) rfl (by decide) rfl (fun ls hl => ?_)
            refine lv_goto (pc := 44) (tgt := 2) hx hb d_M_shared_44 (by decide) ?_
            exact ih_2 (k + 1) (lt_s hk ⟨c_9, c_19, c_38⟩) (by omega) (by omega) _ _ I ls (lv_sub hl [0, 1, 2, 3] rfl)
  exact lp_2 _ 0 (fun t ht => absurd ht (Nat.not_lt_zero _)) (by omega) (Nat.lt_succ_self _) _ _ I ls (lv_sub hl [0, 1, 2, 3] rfl)
set_option maxHeartbeats 4000000 in
set_option maxRecDepth 20000 in
theorem c_M_common (l : Launch) (dC : Nat → ClassId) (dI : Nat → Nat → Nat) (cA : ClassId) (a : Nat → Nat) (T Cp Fi La Le : Nat → Nat) (n fo : Nat) (p0 p1 : Int32) (hn : n ≤ 48) (hT : ∀ i, T i ≤ 3) : M_Mi l dC dI cA a y_M_common b_M_common 3 (some .int) (rmL 1) [.int (p0), .int (p1)] (T, Cp, Fi, La, Le, n, fo) (fun r u => rf_aCom T n p0 p1 r ∧ M_ok T n u) := by
  refine M_meti (by decide) rfl (Nat.le_of_ble_eq_true rfl) ?_
  intro zp ze zs zm za zb zt zc A Q S I hret ls hl
  have hl : lv_has ls 3 [(0, .ref (a 0)), (1, .int (p0)), (2, .int (p1))] := hl
  have hx := S.1
  have hb := S.2.1
  refine lv_aload_n (pc := 0) hx hb d_M_common_0 rfl (lv_at hl 0 rfl) ?_
  refine lv_iload_n (pc := 1) hx hb d_M_common_1 rfl (lv_at hl 1 rfl) ?_
  refine M_calli (pc := 2) (rest := []) [.int (p0)] S (c_M_bad l dC dI cA a T Cp Fi La Le n fo p0 hn) k_M_M_bad e_M_bad rfl rfl ⟨Nat.le_of_ble_eq_true rfl, Nat.le_of_ble_eq_true rfl⟩ I rfl hl.1 rfl (Nat.le_of_ble_eq_true rfl) d_M_common_2 (fun r u H locs hw I => ?_)
  obtain ⟨z, rfl, hz, ez, rfl⟩ := hw
  refine nr_if_ne (pc := 5) (tgt := 16) hx hb (by omega) d_M_common_5 (by decide) (fun c_5 => ?_) (fun c_5 => ?_)
  · refine lv_iconst (pc := 16) (v := -1) hx hb d_M_common_16 (by decide) ?_
    exact hret _ _ _ _ _ _ I d_M_common_17 ⟨Or.inl ⟨fun w => c_5 (ez.mpr w.1), rfl⟩, ⟨Cp, Fi, La, Le, fo, rfl⟩⟩
  · have hpi := ez.mp c_5
    obtain ⟨i, hi0, rfl⟩ := ri_nat hpi.1
    have hi := hpi.2
    rw [ri_toI hi0] at hi
    refine lv_aload_n (pc := 8) hx hb d_M_common_8 rfl (lv_at hl 0 rfl) ?_
    refine lv_iload_n (pc := 9) hx hb d_M_common_9 rfl (lv_at hl 2 rfl) ?_
    refine M_calli (pc := 10) (rest := []) [.int (p1)] S (c_M_bad l dC dI cA a T Cp Fi La Le n fo p1 hn) k_M_M_bad e_M_bad rfl rfl ⟨Nat.le_of_ble_eq_true rfl, Nat.le_of_ble_eq_true rfl⟩ I rfl hl.1 rfl (Nat.le_of_ble_eq_true rfl) d_M_common_10 (fun r u H locs hw I => ?_)
    obtain ⟨y, rfl, hy, ey, rfl⟩ := hw
    refine nr_if_eq (pc := 13) (tgt := 18) hx hb (by omega) d_M_common_13 (by decide) (fun c_13 => ?_) (fun c_13 => ?_)
    · have hpj := ey.mp c_13
      obtain ⟨j, hj0, rfl⟩ := ri_nat hpj.1
      have hj := hpj.2
      rw [ri_toI hj0] at hj
      refine lv_aload_n (pc := 18) hx hb d_M_common_18 rfl (lv_at hl 0 rfl) ?_
      refine lv_iload_n (pc := 19) hx hb d_M_common_19 rfl (lv_at hl 1 rfl) ?_
      refine lv_iload_n (pc := 20) hx hb d_M_common_20 rfl (lv_at hl 2 rfl) ?_
      refine M_calli (pc := 21) (rest := []) [.int (nI (i)), .int (nI (j))] S (c_M_shared l dC dI cA a T Cp Fi La Le n fo i j hn hT (by omega) (by omega)) k_M_M_shared e_M_shared rfl rfl ⟨Nat.le_of_ble_eq_true rfl, Nat.le_of_ble_eq_true rfl⟩ I rfl hl.1 rfl (Nat.le_of_ble_eq_true rfl) d_M_common_21 (fun r u H locs hw I => ?_)
      obtain ⟨k, rfl, hF, rfl⟩ := hw
      exact hret _ _ _ _ _ _ I d_M_common_24 ⟨Or.inr ⟨i, j, k, rfl, by omega, rfl, by omega, hF, rfl⟩, ⟨Cp, Fi, La, Le, fo, rfl⟩⟩
    · refine lv_iconst (pc := 16) (v := -1) hx hb d_M_common_16 (by decide) ?_
      exact hret _ _ _ _ _ _ I d_M_common_17 ⟨Or.inl ⟨fun w => c_13 (ey.mpr w.2), rfl⟩, ⟨Cp, Fi, La, Le, fo, rfl⟩⟩
set_option maxHeartbeats 4000000 in
set_option maxRecDepth 20000 in
theorem c_M_nextSmaller (l : Launch) (dC : Nat → ClassId) (dI : Nat → Nat → Nat) (cA : ClassId) (a : Nat → Nat) (T Cp Fi La Le : Nat → Nat) (n fo : Nat) (p0 : Int32) (hn : n ≤ 48) (hT : ∀ i, T i ≤ 3) : M_Mi l dC dI cA a y_M_nextSmaller b_M_nextSmaller 4 (some .int) (rmL 1) [.int (p0)] (T, Cp, Fi, La, Le, n, fo) (fun r u => rf_aNS T n p0 r ∧ M_ok T n u) := by
  refine M_meti (by decide) rfl (Nat.le_of_ble_eq_true rfl) ?_
  intro zp ze zs zm za zb zt zc A Q S I hret ls hl
  have hl : lv_has ls 4 [(0, .ref (a 0)), (1, .int (p0))] := hl
  have hx := S.1
  have hb := S.2.1
  refine lv_aload_n (pc := 0) hx hb d_M_nextSmaller_0 rfl (lv_at hl 0 rfl) ?_
  refine lv_iload_n (pc := 1) hx hb d_M_nextSmaller_1 rfl (lv_at hl 1 rfl) ?_
  refine M_calli (pc := 2) (rest := []) [.int (p0)] S (c_M_bad l dC dI cA a T Cp Fi La Le n fo p0 hn) k_M_M_bad e_M_bad rfl rfl ⟨Nat.le_of_ble_eq_true rfl, Nat.le_of_ble_eq_true rfl⟩ I rfl hl.1 rfl (Nat.le_of_ble_eq_true rfl) d_M_nextSmaller_2 (fun r u H locs hw I => ?_)
  obtain ⟨z, rfl, hz, ez, rfl⟩ := hw
  refine nr_if_eq (pc := 5) (tgt := 10) hx hb (by omega) d_M_nextSmaller_5 (by decide) (fun c_5 => ?_) (fun c_5 => ?_)
  · have hpi := ez.mp c_5
    obtain ⟨i, hi0, rfl⟩ := ri_nat hpi.1
    have hi := hpi.2
    rw [ri_toI hi0] at hi
    refine lv_iload_n (pc := 10) hx hb d_M_nextSmaller_10 rfl (lv_at hl 1 rfl) ?_
    refine nr_iconst (pc := 11) hx hb 1 rfl d_M_nextSmaller_11 ?_
    refine nr_iadd (pc := 12) hx hb d_M_nextSmaller_12 ?_
    refine lv_istore_n (pc := 13) (lv' := [(2, .int (nI (i + 1))), (0, .ref (a 0)), (1, .int (nI (i)))]) hx hb d_M_nextSmaller_13 rfl hl (by decide) rfl (fun ls hl => ?_)
    have lp_14 : ∀ (fu : Nat) (k : Nat), (i < k) → (k ≤ n) → (∀ x, i < x → x < k → rf_gt T n 1 x i) → n - k < fu → ∀ (H : Heap) (locs : List Loc), M_I dC dI cA a A zs zs.heap H locs (T, Cp, Fi, La, Le, n, fo) → ∀ ls : Array Slot, lv_has ls 4 [(2, .int (nI (k))), (0, .ref (a 0)), (1, .int (nI (i)))] → W zp l ze (rmL 1) zs zm za zb zt zc H locs 0 0 Q (F0 zm 14 ls []) := by
      intro fu
      induction fu with
      | zero =>
        intro k hik hkn hgx hfu
        exact absurd hfu (Nat.not_lt_zero _)
      | succ fu ih_14 =>
        intro k hik hkn hgx hfu H locs I ls hl
        refine lv_iload_n (pc := 14) hx hb d_M_nextSmaller_14 rfl (lv_at hl 0 rfl) ?_
        refine lv_aload_n (pc := 15) hx hb d_M_nextSmaller_15 rfl (lv_at hl 1 rfl) ?_
        refine M_get_length (pc := 16) S I d_M_nextSmaller_16 ?_
        refine nr_icmp_ge (pc := 19) (tgt := 68) hx hb (by omega) (by omega) d_M_nextSmaller_19 (by decide) (fun c_19 => ?_) (fun c_19 => ?_)
        · refine lv_aload_n (pc := 68) hx hb d_M_nextSmaller_68 rfl (lv_at hl 1 rfl) ?_
          refine M_get_length (pc := 69) S I d_M_nextSmaller_69 ?_
          exact hret _ _ _ _ _ _ I d_M_nextSmaller_72 ⟨Or.inr ⟨i, n, rfl, by omega, ⟨by omega, Nat.le_refl _, fun x h1 h2 => hgx x h1 (by omega), fun w => absurd w (by omega)⟩, rfl⟩, ⟨Cp, Fi, La, Le, fo, rfl⟩⟩
        · refine lv_aload_n (pc := 22) hx hb d_M_nextSmaller_22 rfl (lv_at hl 1 rfl) ?_
          refine lv_iload_n (pc := 23) hx hb d_M_nextSmaller_23 rfl (lv_at hl 2 rfl) ?_
          refine lv_iload_n (pc := 24) hx hb d_M_nextSmaller_24 rfl (lv_at hl 0 rfl) ?_
          refine M_calli (pc := 25) (rest := []) [.int (nI (i)), .int (nI (k))] S (c_M_shared l dC dI cA a T Cp Fi La Le n fo i k hn hT (by omega) (by omega)) k_M_M_shared e_M_shared rfl rfl ⟨Nat.le_of_ble_eq_true rfl, Nat.le_of_ble_eq_true rfl⟩ I rfl hl.1 rfl (Nat.le_of_ble_eq_true rfl) d_M_nextSmaller_25 (fun r u H locs hw I => ?_)
          obtain ⟨s, rfl, hF, rfl⟩ := hw
          have hsl := rf_F_le hF hkn
          have hg := rf_gt_iff (b := 1) hik hF
          rw [rf_lt_1] at hg
          refine lv_istore_n (pc := 28) (lv' := [(3, .int (nI (s))), (2, .int (nI (k))), (0, .ref (a 0)), (1, .int (nI (i)))]) hx hb d_M_nextSmaller_28 rfl hl (by decide) rfl (fun ls hl => ?_)
          refine lv_iload_n (pc := 29) hx hb d_M_nextSmaller_29 rfl (lv_at hl 1 rfl) ?_
          refine lv_iload_n (pc := 30) hx hb d_M_nextSmaller_30 rfl (lv_at hl 0 rfl) ?_
          refine nr_iadd (pc := 31) hx hb d_M_nextSmaller_31 ?_
          refine lv_aload_n (pc := 32) hx hb d_M_nextSmaller_32 rfl (lv_at hl 2 rfl) ?_
          refine M_get_length (pc := 33) S I d_M_nextSmaller_33 ?_
          refine nr_icmp_ne (pc := 36) (tgt := 41) hx hb (by omega) (by omega) d_M_nextSmaller_36 (by decide) (fun c_36 => ?_) (fun c_36 => ?_)
          · refine lv_aload_n (pc := 41) hx hb d_M_nextSmaller_41 rfl (lv_at hl 2 rfl) ?_
            refine M_get_text (pc := 42) S I d_M_nextSmaller_42 ?_
            refine lv_iload_n (pc := 45) hx hb d_M_nextSmaller_45 rfl (lv_at hl 1 rfl) ?_
            refine lv_iload_n (pc := 46) hx hb d_M_nextSmaller_46 rfl (lv_at hl 0 rfl) ?_
            refine nr_iadd (pc := 47) hx hb d_M_nextSmaller_47 ?_
            refine M_ald1 (pc := 48) S I (by omega) d_M_nextSmaller_48 ?_
            refine lv_aload_n (pc := 49) hx hb d_M_nextSmaller_49 rfl (lv_at hl 2 rfl) ?_
            refine M_get_text (pc := 50) S I d_M_nextSmaller_50 ?_
            refine lv_iload_n (pc := 53) hx hb d_M_nextSmaller_53 rfl (lv_at hl 3 rfl) ?_
            refine lv_iload_n (pc := 54) hx hb d_M_nextSmaller_54 rfl (lv_at hl 0 rfl) ?_
            refine nr_iadd (pc := 55) hx hb d_M_nextSmaller_55 ?_
            refine M_ald1 (pc := 56) S I (by omega) d_M_nextSmaller_56 ?_
            refine nr_icmp_ge (pc := 57) (tgt := 62) hx hb (sm3 (hT _)) (sm3 (hT _)) d_M_nextSmaller_57 (by decide) (fun c_57 => ?_) (fun c_57 => ?_)
            · have hne : T (i + s) ≠ T (k + s) := fun w => hF.2 ⟨by omega, by omega, w⟩
              have hgk : rf_gt T n 1 k i := hg.mpr ⟨by omega, by omega⟩
              refine nr_iinc (pc := 62) (lv' := [(2, .int (nI (k + 1))), (3, .int (nI (s))), (0, .ref (a 0)), (1, .int (nI (i)))]) hx hb d_M_nextSmaller_62 hl (d := 1) rfl (k := 1) rfl (by decide) rfl (fun ls hl => ?_)
              refine lv_goto (pc := 65) (tgt := 14) hx hb d_M_nextSmaller_65 (by decide) ?_
              exact ih_14 (k + 1) (by omega) (by omega) (fun x h1 h2 => by
                rcases Nat.lt_or_ge x k with w | w
                · exact hgx x h1 w
                · rw [show x = k by omega]; exact hgk) (by omega) _ _ I ls (lv_sub hl [0, 2, 3] rfl)
            · refine lv_iload_n (pc := 60) hx hb d_M_nextSmaller_60 rfl (lv_at hl 1 rfl) ?_
              exact hret _ _ _ _ _ _ I d_M_nextSmaller_61 ⟨Or.inr ⟨i, k, rfl, by omega, ⟨hik, hkn, hgx, fun _ w => by have q := hg.mp w; omega⟩, rfl⟩, ⟨Cp, Fi, La, Le, fo, rfl⟩⟩
          · refine lv_iload_n (pc := 39) hx hb d_M_nextSmaller_39 rfl (lv_at hl 1 rfl) ?_
            exact hret _ _ _ _ _ _ I d_M_nextSmaller_40 ⟨Or.inr ⟨i, k, rfl, by omega, ⟨hik, hkn, hgx, fun _ w => by have q := hg.mp w; omega⟩, rfl⟩, ⟨Cp, Fi, La, Le, fo, rfl⟩⟩
    exact lp_14 _ (i + 1) (by omega) (by omega) (fun x h1 h2 => absurd h2 (by omega)) (Nat.lt_succ_self _) _ _ I ls (lv_sub hl [0, 1, 2] rfl)
  · refine lv_iconst (pc := 8) (v := -1) hx hb d_M_nextSmaller_8 (by decide) ?_
    exact hret _ _ _ _ _ _ I d_M_nextSmaller_9 ⟨Or.inl ⟨fun w => c_5 (ez.mpr w), rfl⟩, ⟨Cp, Fi, La, Le, fo, rfl⟩⟩
end
section
theorem ac_int : Cond.arrayClass .int ∈ lw_gt := lw_in 51 rfl rfl
theorem cl_X : Cond.classLink "RunsFinderLaw" 7 R_X ∈ lw_gt := lw_in 18 rfl rfl
theorem cl_M : Cond.classLink "RunsFinderLaw" 10 R_M ∈ lw_gt := lw_in 164 rfl rfl
theorem it_X : Cond.instantiable R_X 8 ∈ lw_gt := lw_in 19 rfl rfl
theorem it_M : Cond.instantiable R_M 7 ∈ lw_gt := lw_in 165 rfl rfl
abbrev X_0 : XS := (fun _ => 0, fun _ => 0, fun _ => 0, fun _ => 0, fun _ => 0, 0, 0, 0)
abbrev M_0 : MS := (fun _ => 0, fun _ => 0, fun _ => 0, fun _ => 0, fun _ => 0, 0, 0)
/-- all int arrays are of one class -/
theorem one_arr {D : va_G} {cl : List vw_C} {c1 c2 : ClassId} {tys : List (ClassId × FieldType)} {U : State} (h : va_K D cl tys U) {i j : Nat} (h1 : tys[i]? = some (c1, .int)) (h2 : tys[j]? = some (c2, .int)) : c1 = c2 := by
  have e1 : U.vm.findClass ("[" ++ FieldType.int.toString) = some c1 := (h.2 i _ h1).2
  have e2 : U.vm.findClass ("[" ++ FieldType.int.toString) = some c2 := (h.2 j _ h2).2
  exact Option.some.inj (e1.symm.trans e2)
set_option maxHeartbeats 4000000 in
set_option maxRecDepth 20000 in
theorem c_X_init (l : Launch) (dC : Nat → ClassId) (dI : Nat → Nat → Nat) (h0 sz : Nat) : Met l y_X_init (Cond.code y_X_init b_X_init 1 none :: lw_gt) ({ frames := 1, cells := 5, slots := 397, locals := 14 }) (va_Pc [.ref h0] (fun U => U.heap.size = sz ∧ va_P (dC, dI) classes [(h0, .inr (0, [.null, .null, .null, .null, .null, .int (nI 0), .int (nI 0), .int (nI 0)]))] U.heap ∧ va_K (dC, dI) classes [] U ∧ va_D (fun _ => True) [(h0, .inr (0, [.null, .null, .null, .null, .null, .int (nI 0), .int (nI 0), .int (nI 0)]))])) (va_Qv (fun _ : Unit => True) (fun _ t => ∃ (cA : ClassId) (a : Nat → Nat), a 0 = h0 ∧ va_P (dC, dI) classes (X_w cA a X_0) t.heap ∧ va_K (dC, dI) classes [(cA, .int)] t ∧ va_D (va_A [(h0, .inr (0, [.null, .null, .null, .null, .null, .int (nI 0), .int (nI 0), .int (nI 0)]))] sz) (X_w cA a X_0)) (va_A [(h0, .inr (0, [.null, .null, .null, .null, .null, .int (nI 0), .int (nI 0), .int (nI 0)]))] sz)) 5 397 (va_A [(h0, .inr (0, [.null, .null, .null, .null, .null, .int (nI 0), .int (nI 0), .int (nI 0)]))] sz) := by
  refine Met.ofW (cc := b_X_init) (maxL := 1) (ret := none) (by decide) rfl ?_
  intro p e s m args below meth c s₁ B hml hv
  obtain ⟨rfl, hsz, hP, hK, hD0⟩ := hv
  have hx := B.exec
  have hb := B.bytes
  have hr := B.returns
  have hts0 := atoms_spec (ws := Cond.code y_X_init b_X_init 1 none :: lw_gt) B.pre
  have hts : ∀ w ∈ lw_gt, w.before _ s = true := fun w hw => hts0 w (List.mem_cons_of_mem _ hw)
  have hown : s.vm.findClass R_X = some m.cls := findClass_of_methodNamed B.named
  have hlocks := B.notSynchronized
  have hin : meth.name = "<init>" := (name_of_methodNamed B.named B.method).1
  subst hsz
  have hD := hD0.self (sz := s.heap.size)
  generalize hAe : va_A [(h0, .inr (0, [.null, .null, .null, .null, .null, .int (nI 0), .int (nI 0), .int (nI 0)]))] s.heap.size = A at hD ⊢
  have hA : ∀ q : Nat, s.heap.size ≤ q → A q := fun q h => by rw [← hAe]; exact Or.inr h
  have hS : va_S A s.heap s.heap [] := va_S.rf
  have hl := lv_entry ([.ref h0]) (n := 1) (Nat.le_of_ble_eq_true rfl)
  rw [lg_entry_eq]
  generalize (lg_sl ([.ref h0]) ++ List.replicate (1 - (lg_sl ([.ref h0])).length) Slot.unset).toArray = ls at hl ⊢
  have hl : lv_has ls 1 [(0, .ref h0)] := hl
  refine lv_aload_n (pc := 0) hx hb d_X_init_0 rfl (lv_at hl 0 rfl) ?_
  refine W.objInit hx hb hown (hts _ ob_X) (hts _ ob_inst) (hts _ ob_code) rfl (by rw [hml]; exact hl.1) rfl d_X_init_1 (Nat.le_of_ble_eq_true rfl) (Nat.le_of_ble_eq_true rfl) ?_
  refine W.eq (g2 := F0 m 4 ls []) rfl ?_
  refine lv_aload_n (pc := 4) hx hb d_X_init_4 rfl (lv_at hl 0 rfl) ?_
  refine nr_bipush (pc := 5) hx hb 48 (by decide) d_X_init_5 ?_
  refine va_newa (pc := 7) (atype := .int) (D := (dC, dI)) (N' := 48) (a0 := (48, .inl (nF (fun _ => 0)))) (ty := .int) hx hb (hts _ ac_int) rfl hK hP hD hS hA (fun _ => rfl) (by decide) (by decide) (by decide) (Nat.le_of_ble_eq_true rfl) (Nat.le_of_ble_eq_true rfl) d_X_init_7 (fun q1 cB H hK hP hD hS => ?_)
  refine W.widen (k := 1) (n := 48) (Nat.le_of_ble_eq_true rfl) (Nat.le_of_ble_eq_true rfl) ?_
  have hK : va_K (dC, dI) classes [(cB, .int)] s := hK
  generalize cB = cA at hK hP hD
  have hP : va_P (dC, dI) classes [(h0, .inr (0, [.null, .null, .null, .null, .null, .int (nI 0), .int (nI 0), .int (nI 0)])), (q1, .inl (cA, 48, .inl (nF (fun _ => 0))))] H := hP
  have hD : va_D A [(h0, .inr (0, [.null, .null, .null, .null, .null, .int (nI 0), .int (nI 0), .int (nI 0)])), (q1, .inl (cA, 48, .inl (nF (fun _ => 0))))] := hD
  refine va_putF (pc := 9) (D := (dC, dI)) (ci := 0) (v := .ref q1) (ty := .array .int) (C := R_X) (T := F_X) (N := 8) hx hb hts i_X t_X t_X_ok n_X hown hK hP hD hS 0 rfl rfl 0 (by decide) (hts _ fl_X_text) (fun _ h9 => h9) rfl hin rfl (by decide +kernel) rfl rfl (Nat.le_of_ble_eq_true rfl) d_X_init_9 (fun H locs hP hD hS => ?_)
  have hP : va_P (dC, dI) classes [(h0, .inr (0, [.ref q1, .null, .null, .null, .null, .int (nI 0), .int (nI 0), .int (nI 0)])), (q1, .inl (cA, 48, .inl (nF (fun _ => 0))))] H := hP
  have hD : va_D A [(h0, .inr (0, [.ref q1, .null, .null, .null, .null, .int (nI 0), .int (nI 0), .int (nI 0)])), (q1, .inl (cA, 48, .inl (nF (fun _ => 0))))] := hD
  refine lv_aload_n (pc := 12) hx hb d_X_init_12 rfl (lv_at hl 0 rfl) ?_
  refine nr_bipush (pc := 13) hx hb 49 (by decide) d_X_init_13 ?_
  refine va_newa (pc := 15) (atype := .int) (D := (dC, dI)) (N' := 49) (a0 := (49, .inl (nF (fun _ => 0)))) (ty := .int) hx hb (hts _ ac_int) rfl hK hP hD hS hA (fun _ => rfl) (by decide) (by decide) (by decide) (Nat.le_of_ble_eq_true rfl) (Nat.le_of_ble_eq_true rfl) d_X_init_15 (fun q2 cB H hK hP hD hS => ?_)
  refine W.widen (k := 2) (n := 97) (Nat.le_of_ble_eq_true rfl) (Nat.le_of_ble_eq_true rfl) ?_
  have hcA : cB = cA := one_arr hK (i := 1) (j := 0) rfl rfl
  subst hcA
  generalize cB = cA at hK hP hD
  have hK : va_K (dC, dI) classes [(cA, .int)] s := hK.sub [0] rfl
  have hP : va_P (dC, dI) classes [(h0, .inr (0, [.ref q1, .null, .null, .null, .null, .int (nI 0), .int (nI 0), .int (nI 0)])), (q1, .inl (cA, 48, .inl (nF (fun _ => 0)))), (q2, .inl (cA, 49, .inl (nF (fun _ => 0))))] H := hP
  have hD : va_D A [(h0, .inr (0, [.ref q1, .null, .null, .null, .null, .int (nI 0), .int (nI 0), .int (nI 0)])), (q1, .inl (cA, 48, .inl (nF (fun _ => 0)))), (q2, .inl (cA, 49, .inl (nF (fun _ => 0))))] := hD
  refine va_putF (pc := 17) (D := (dC, dI)) (ci := 0) (v := .ref q2) (ty := .array .int) (C := R_X) (T := F_X) (N := 8) hx hb hts i_X t_X t_X_ok n_X hown hK hP hD hS 0 rfl rfl 1 (by decide) (hts _ fl_X_after) (fun _ h9 => h9) rfl hin rfl (by decide +kernel) rfl rfl (Nat.le_of_ble_eq_true rfl) d_X_init_17 (fun H locs hP hD hS => ?_)
  have hP : va_P (dC, dI) classes [(h0, .inr (0, [.ref q1, .ref q2, .null, .null, .null, .int (nI 0), .int (nI 0), .int (nI 0)])), (q1, .inl (cA, 48, .inl (nF (fun _ => 0)))), (q2, .inl (cA, 49, .inl (nF (fun _ => 0))))] H := hP
  have hD : va_D A [(h0, .inr (0, [.ref q1, .ref q2, .null, .null, .null, .int (nI 0), .int (nI 0), .int (nI 0)])), (q1, .inl (cA, 48, .inl (nF (fun _ => 0)))), (q2, .inl (cA, 49, .inl (nF (fun _ => 0))))] := hD
  refine lv_aload_n (pc := 20) hx hb d_X_init_20 rfl (lv_at hl 0 rfl) ?_
  refine nr_bipush (pc := 21) hx hb 100 (by decide) d_X_init_21 ?_
  refine va_newa (pc := 23) (atype := .int) (D := (dC, dI)) (N' := 100) (a0 := (100, .inl (nF (fun _ => 0)))) (ty := .int) hx hb (hts _ ac_int) rfl hK hP hD hS hA (fun _ => rfl) (by decide) (by decide) (by decide) (Nat.le_of_ble_eq_true rfl) (Nat.le_of_ble_eq_true rfl) d_X_init_23 (fun q3 cB H hK hP hD hS => ?_)
  refine W.widen (k := 3) (n := 197) (Nat.le_of_ble_eq_true rfl) (Nat.le_of_ble_eq_true rfl) ?_
  have hcA : cB = cA := one_arr hK (i := 1) (j := 0) rfl rfl
  subst hcA
  generalize cB = cA at hK hP hD
  have hK : va_K (dC, dI) classes [(cA, .int)] s := hK.sub [0] rfl
  have hP : va_P (dC, dI) classes [(h0, .inr (0, [.ref q1, .ref q2, .null, .null, .null, .int (nI 0), .int (nI 0), .int (nI 0)])), (q1, .inl (cA, 48, .inl (nF (fun _ => 0)))), (q2, .inl (cA, 49, .inl (nF (fun _ => 0)))), (q3, .inl (cA, 100, .inl (nF (fun _ => 0))))] H := hP
  have hD : va_D A [(h0, .inr (0, [.ref q1, .ref q2, .null, .null, .null, .int (nI 0), .int (nI 0), .int (nI 0)])), (q1, .inl (cA, 48, .inl (nF (fun _ => 0)))), (q2, .inl (cA, 49, .inl (nF (fun _ => 0)))), (q3, .inl (cA, 100, .inl (nF (fun _ => 0))))] := hD
  refine va_putF (pc := 25) (D := (dC, dI)) (ci := 0) (v := .ref q3) (ty := .array .int) (C := R_X) (T := F_X) (N := 8) hx hb hts i_X t_X t_X_ok n_X hown hK hP hD hS 0 rfl rfl 2 (by decide) (hts _ fl_X_first) (fun _ h9 => h9) rfl hin rfl (by decide +kernel) rfl rfl (Nat.le_of_ble_eq_true rfl) d_X_init_25 (fun H locs hP hD hS => ?_)
  have hP : va_P (dC, dI) classes [(h0, .inr (0, [.ref q1, .ref q2, .ref q3, .null, .null, .int (nI 0), .int (nI 0), .int (nI 0)])), (q1, .inl (cA, 48, .inl (nF (fun _ => 0)))), (q2, .inl (cA, 49, .inl (nF (fun _ => 0)))), (q3, .inl (cA, 100, .inl (nF (fun _ => 0))))] H := hP
  have hD : va_D A [(h0, .inr (0, [.ref q1, .ref q2, .ref q3, .null, .null, .int (nI 0), .int (nI 0), .int (nI 0)])), (q1, .inl (cA, 48, .inl (nF (fun _ => 0)))), (q2, .inl (cA, 49, .inl (nF (fun _ => 0)))), (q3, .inl (cA, 100, .inl (nF (fun _ => 0))))] := hD
  refine lv_aload_n (pc := 28) hx hb d_X_init_28 rfl (lv_at hl 0 rfl) ?_
  refine nr_bipush (pc := 29) hx hb 100 (by decide) d_X_init_29 ?_
  refine va_newa (pc := 31) (atype := .int) (D := (dC, dI)) (N' := 100) (a0 := (100, .inl (nF (fun _ => 0)))) (ty := .int) hx hb (hts _ ac_int) rfl hK hP hD hS hA (fun _ => rfl) (by decide) (by decide) (by decide) (Nat.le_of_ble_eq_true rfl) (Nat.le_of_ble_eq_true rfl) d_X_init_31 (fun q4 cB H hK hP hD hS => ?_)
  refine W.widen (k := 4) (n := 297) (Nat.le_of_ble_eq_true rfl) (Nat.le_of_ble_eq_true rfl) ?_
  have hcA : cB = cA := one_arr hK (i := 1) (j := 0) rfl rfl
  subst hcA
  generalize cB = cA at hK hP hD
  have hK : va_K (dC, dI) classes [(cA, .int)] s := hK.sub [0] rfl
  have hP : va_P (dC, dI) classes [(h0, .inr (0, [.ref q1, .ref q2, .ref q3, .null, .null, .int (nI 0), .int (nI 0), .int (nI 0)])), (q1, .inl (cA, 48, .inl (nF (fun _ => 0)))), (q2, .inl (cA, 49, .inl (nF (fun _ => 0)))), (q3, .inl (cA, 100, .inl (nF (fun _ => 0)))), (q4, .inl (cA, 100, .inl (nF (fun _ => 0))))] H := hP
  have hD : va_D A [(h0, .inr (0, [.ref q1, .ref q2, .ref q3, .null, .null, .int (nI 0), .int (nI 0), .int (nI 0)])), (q1, .inl (cA, 48, .inl (nF (fun _ => 0)))), (q2, .inl (cA, 49, .inl (nF (fun _ => 0)))), (q3, .inl (cA, 100, .inl (nF (fun _ => 0)))), (q4, .inl (cA, 100, .inl (nF (fun _ => 0))))] := hD
  refine va_putF (pc := 33) (D := (dC, dI)) (ci := 0) (v := .ref q4) (ty := .array .int) (C := R_X) (T := F_X) (N := 8) hx hb hts i_X t_X t_X_ok n_X hown hK hP hD hS 0 rfl rfl 3 (by decide) (hts _ fl_X_last) (fun _ h9 => h9) rfl hin rfl (by decide +kernel) rfl rfl (Nat.le_of_ble_eq_true rfl) d_X_init_33 (fun H locs hP hD hS => ?_)
  have hP : va_P (dC, dI) classes [(h0, .inr (0, [.ref q1, .ref q2, .ref q3, .ref q4, .null, .int (nI 0), .int (nI 0), .int (nI 0)])), (q1, .inl (cA, 48, .inl (nF (fun _ => 0)))), (q2, .inl (cA, 49, .inl (nF (fun _ => 0)))), (q3, .inl (cA, 100, .inl (nF (fun _ => 0)))), (q4, .inl (cA, 100, .inl (nF (fun _ => 0))))] H := hP
  have hD : va_D A [(h0, .inr (0, [.ref q1, .ref q2, .ref q3, .ref q4, .null, .int (nI 0), .int (nI 0), .int (nI 0)])), (q1, .inl (cA, 48, .inl (nF (fun _ => 0)))), (q2, .inl (cA, 49, .inl (nF (fun _ => 0)))), (q3, .inl (cA, 100, .inl (nF (fun _ => 0)))), (q4, .inl (cA, 100, .inl (nF (fun _ => 0))))] := hD
  refine lv_aload_n (pc := 36) hx hb d_X_init_36 rfl (lv_at hl 0 rfl) ?_
  refine nr_bipush (pc := 37) hx hb 100 (by decide) d_X_init_37 ?_
  refine va_newa (pc := 39) (atype := .int) (D := (dC, dI)) (N' := 100) (a0 := (100, .inl (nF (fun _ => 0)))) (ty := .int) hx hb (hts _ ac_int) rfl hK hP hD hS hA (fun _ => rfl) (by decide) (by decide) (by decide) (Nat.le_of_ble_eq_true rfl) (Nat.le_of_ble_eq_true rfl) d_X_init_39 (fun q5 cB H hK hP hD hS => ?_)
  refine W.widen (k := 5) (n := 397) (Nat.le_of_ble_eq_true rfl) (Nat.le_of_ble_eq_true rfl) ?_
  have hcA : cB = cA := one_arr hK (i := 1) (j := 0) rfl rfl
  subst hcA
  generalize cB = cA at hK hP hD
  have hK : va_K (dC, dI) classes [(cA, .int)] s := hK.sub [0] rfl
  have hP : va_P (dC, dI) classes [(h0, .inr (0, [.ref q1, .ref q2, .ref q3, .ref q4, .null, .int (nI 0), .int (nI 0), .int (nI 0)])), (q1, .inl (cA, 48, .inl (nF (fun _ => 0)))), (q2, .inl (cA, 49, .inl (nF (fun _ => 0)))), (q3, .inl (cA, 100, .inl (nF (fun _ => 0)))), (q4, .inl (cA, 100, .inl (nF (fun _ => 0)))), (q5, .inl (cA, 100, .inl (nF (fun _ => 0))))] H := hP
  have hD : va_D A [(h0, .inr (0, [.ref q1, .ref q2, .ref q3, .ref q4, .null, .int (nI 0), .int (nI 0), .int (nI 0)])), (q1, .inl (cA, 48, .inl (nF (fun _ => 0)))), (q2, .inl (cA, 49, .inl (nF (fun _ => 0)))), (q3, .inl (cA, 100, .inl (nF (fun _ => 0)))), (q4, .inl (cA, 100, .inl (nF (fun _ => 0)))), (q5, .inl (cA, 100, .inl (nF (fun _ => 0))))] := hD
  refine va_putF (pc := 41) (D := (dC, dI)) (ci := 0) (v := .ref q5) (ty := .array .int) (C := R_X) (T := F_X) (N := 8) hx hb hts i_X t_X t_X_ok n_X hown hK hP hD hS 0 rfl rfl 4 (by decide) (hts _ fl_X_step) (fun _ h9 => h9) rfl hin rfl (by decide +kernel) rfl rfl (Nat.le_of_ble_eq_true rfl) d_X_init_41 (fun H locs hP hD hS => ?_)
  have hP : va_P (dC, dI) classes [(h0, .inr (0, [.ref q1, .ref q2, .ref q3, .ref q4, .ref q5, .int (nI 0), .int (nI 0), .int (nI 0)])), (q1, .inl (cA, 48, .inl (nF (fun _ => 0)))), (q2, .inl (cA, 49, .inl (nF (fun _ => 0)))), (q3, .inl (cA, 100, .inl (nF (fun _ => 0)))), (q4, .inl (cA, 100, .inl (nF (fun _ => 0)))), (q5, .inl (cA, 100, .inl (nF (fun _ => 0))))] H := hP
  have hD : va_D A [(h0, .inr (0, [.ref q1, .ref q2, .ref q3, .ref q4, .ref q5, .int (nI 0), .int (nI 0), .int (nI 0)])), (q1, .inl (cA, 48, .inl (nF (fun _ => 0)))), (q2, .inl (cA, 49, .inl (nF (fun _ => 0)))), (q3, .inl (cA, 100, .inl (nF (fun _ => 0)))), (q4, .inl (cA, 100, .inl (nF (fun _ => 0)))), (q5, .inl (cA, 100, .inl (nF (fun _ => 0))))] := hD
  refine lv_aload_n (pc := 44) hx hb d_X_init_44 rfl (lv_at hl 0 rfl) ?_
  refine nr_iconst (pc := 45) hx hb 0 rfl d_X_init_45 ?_
  refine va_put (pc := 46) (D := (dC, dI)) (ci := 0) (v := .int (nI 0)) (ty := .int) (C := R_X) (T := F_X) (N := 8) hx hb hts i_X t_X t_X_ok n_X hown hK hP hD hS 0 rfl rfl 5 (by decide) (hts _ fl_X_length) (fun _ h9 => h9) rfl (by decide +kernel) rfl rfl (Nat.le_of_ble_eq_true rfl) d_X_init_46 (fun H locs hP hD hS => ?_)
  have hP : va_P (dC, dI) classes [(h0, .inr (0, [.ref q1, .ref q2, .ref q3, .ref q4, .ref q5, .int (nI 0), .int (nI 0), .int (nI 0)])), (q1, .inl (cA, 48, .inl (nF (fun _ => 0)))), (q2, .inl (cA, 49, .inl (nF (fun _ => 0)))), (q3, .inl (cA, 100, .inl (nF (fun _ => 0)))), (q4, .inl (cA, 100, .inl (nF (fun _ => 0)))), (q5, .inl (cA, 100, .inl (nF (fun _ => 0))))] H := hP
  have hD : va_D A [(h0, .inr (0, [.ref q1, .ref q2, .ref q3, .ref q4, .ref q5, .int (nI 0), .int (nI 0), .int (nI 0)])), (q1, .inl (cA, 48, .inl (nF (fun _ => 0)))), (q2, .inl (cA, 49, .inl (nF (fun _ => 0)))), (q3, .inl (cA, 100, .inl (nF (fun _ => 0)))), (q4, .inl (cA, 100, .inl (nF (fun _ => 0)))), (q5, .inl (cA, 100, .inl (nF (fun _ => 0))))] := hD
  obtain ⟨a, ha⟩ : ∃ a : Nat → Nat, a = fun k => match k with | 0 => h0 | 1 => q1 | 2 => q2 | 3 => q3 | 4 => q4 | _ => q5 := ⟨_, rfl⟩
  have hP9 : va_P (dC, dI) classes (X_w cA a X_0) H := by rw [ha]; exact hP
  have hD9 : va_D A (X_w cA a X_0) := by rw [ha]; exact hD
  exact W.vret (pc := 49) hx hb hr (fun t ht hW => ⟨⟨(), rfl, trivial, cA, a, congrFun ha 0, by rw [ht]; exact hP9, va_K.moved hW.alike hK, hD9⟩, hS.F ht⟩) hS.2.2 d_X_init_49
set_option maxHeartbeats 4000000 in
set_option maxRecDepth 20000 in
theorem c_M_init (l : Launch) (dC : Nat → ClassId) (dI : Nat → Nat → Nat) (h0 sz : Nat) : Met l y_M_init (Cond.code y_M_init b_M_init 1 none :: lw_gt) ({ frames := 1, cells := 5, slots := 384, locals := 14 }) (va_Pc [.ref h0] (fun U => U.heap.size = sz ∧ va_P (dC, dI) classes [(h0, .inr (1, [.int (nI 0), .null, .null, .int (nI 0), .null, .null, .null]))] U.heap ∧ va_K (dC, dI) classes [] U ∧ va_D (fun _ => True) [(h0, .inr (1, [.int (nI 0), .null, .null, .int (nI 0), .null, .null, .null]))])) (va_Qv (fun _ : Unit => True) (fun _ t => ∃ (cA : ClassId) (a : Nat → Nat), a 0 = h0 ∧ va_P (dC, dI) classes (M_w cA a M_0) t.heap ∧ va_K (dC, dI) classes [(cA, .int)] t ∧ va_D (va_A [(h0, .inr (1, [.int (nI 0), .null, .null, .int (nI 0), .null, .null, .null]))] sz) (M_w cA a M_0)) (va_A [(h0, .inr (1, [.int (nI 0), .null, .null, .int (nI 0), .null, .null, .null]))] sz)) 5 384 (va_A [(h0, .inr (1, [.int (nI 0), .null, .null, .int (nI 0), .null, .null, .null]))] sz) := by
  refine Met.ofW (cc := b_M_init) (maxL := 1) (ret := none) (by decide) rfl ?_
  intro p e s m args below meth c s₁ B hml hv
  obtain ⟨rfl, hsz, hP, hK, hD0⟩ := hv
  have hx := B.exec
  have hb := B.bytes
  have hr := B.returns
  have hts0 := atoms_spec (ws := Cond.code y_M_init b_M_init 1 none :: lw_gt) B.pre
  have hts : ∀ w ∈ lw_gt, w.before _ s = true := fun w hw => hts0 w (List.mem_cons_of_mem _ hw)
  have hown : s.vm.findClass R_M = some m.cls := findClass_of_methodNamed B.named
  have hlocks := B.notSynchronized
  have hin : meth.name = "<init>" := (name_of_methodNamed B.named B.method).1
  subst hsz
  have hD := hD0.self (sz := s.heap.size)
  generalize hAe : va_A [(h0, .inr (1, [.int (nI 0), .null, .null, .int (nI 0), .null, .null, .null]))] s.heap.size = A at hD ⊢
  have hA : ∀ q : Nat, s.heap.size ≤ q → A q := fun q h => by rw [← hAe]; exact Or.inr h
  have hS : va_S A s.heap s.heap [] := va_S.rf
  have hl := lv_entry ([.ref h0]) (n := 1) (Nat.le_of_ble_eq_true rfl)
  rw [lg_entry_eq]
  generalize (lg_sl ([.ref h0]) ++ List.replicate (1 - (lg_sl ([.ref h0])).length) Slot.unset).toArray = ls at hl ⊢
  have hl : lv_has ls 1 [(0, .ref h0)] := hl
  refine lv_aload_n (pc := 0) hx hb d_M_init_0 rfl (lv_at hl 0 rfl) ?_
  refine W.objInit hx hb hown (hts _ ob_M) (hts _ ob_inst) (hts _ ob_code) rfl (by rw [hml]; exact hl.1) rfl d_M_init_1 (Nat.le_of_ble_eq_true rfl) (Nat.le_of_ble_eq_true rfl) ?_
  refine W.eq (g2 := F0 m 4 ls []) rfl ?_
  refine lv_aload_n (pc := 4) hx hb d_M_init_4 rfl (lv_at hl 0 rfl) ?_
  refine nr_bipush (pc := 5) hx hb 48 (by decide) d_M_init_5 ?_
  refine va_newa (pc := 7) (atype := .int) (D := (dC, dI)) (N' := 48) (a0 := (48, .inl (nF (fun _ => 0)))) (ty := .int) hx hb (hts _ ac_int) rfl hK hP hD hS hA (fun _ => rfl) (by decide) (by decide) (by decide) (Nat.le_of_ble_eq_true rfl) (Nat.le_of_ble_eq_true rfl) d_M_init_7 (fun q1 cB H hK hP hD hS => ?_)
  refine W.widen (k := 1) (n := 48) (Nat.le_of_ble_eq_true rfl) (Nat.le_of_ble_eq_true rfl) ?_
  have hK : va_K (dC, dI) classes [(cB, .int)] s := hK
  generalize cB = cA at hK hP hD
  have hP : va_P (dC, dI) classes [(h0, .inr (1, [.int (nI 0), .null, .null, .int (nI 0), .null, .null, .null])), (q1, .inl (cA, 48, .inl (nF (fun _ => 0))))] H := hP
  have hD : va_D A [(h0, .inr (1, [.int (nI 0), .null, .null, .int (nI 0), .null, .null, .null])), (q1, .inl (cA, 48, .inl (nF (fun _ => 0))))] := hD
  refine va_put (pc := 9) (D := (dC, dI)) (ci := 1) (v := .ref q1) (ty := .array .int) (C := R_M) (T := F_M) (N := 7) hx hb hts i_M t_M t_M_ok n_M hown hK hP hD hS 0 rfl rfl 1 (by decide) (hts _ fl_M_text) (fun _ h9 => h9) rfl (by decide +kernel) rfl rfl (Nat.le_of_ble_eq_true rfl) d_M_init_9 (fun H locs hP hD hS => ?_)
  have hP : va_P (dC, dI) classes [(h0, .inr (1, [.int (nI 0), .ref q1, .null, .int (nI 0), .null, .null, .null])), (q1, .inl (cA, 48, .inl (nF (fun _ => 0))))] H := hP
  have hD : va_D A [(h0, .inr (1, [.int (nI 0), .ref q1, .null, .int (nI 0), .null, .null, .null])), (q1, .inl (cA, 48, .inl (nF (fun _ => 0))))] := hD
  refine lv_aload_n (pc := 12) hx hb d_M_init_12 rfl (lv_at hl 0 rfl) ?_
  refine nr_bipush (pc := 13) hx hb 48 (by decide) d_M_init_13 ?_
  refine va_newa (pc := 15) (atype := .int) (D := (dC, dI)) (N' := 48) (a0 := (48, .inl (nF (fun _ => 0)))) (ty := .int) hx hb (hts _ ac_int) rfl hK hP hD hS hA (fun _ => rfl) (by decide) (by decide) (by decide) (Nat.le_of_ble_eq_true rfl) (Nat.le_of_ble_eq_true rfl) d_M_init_15 (fun q2 cB H hK hP hD hS => ?_)
  refine W.widen (k := 2) (n := 96) (Nat.le_of_ble_eq_true rfl) (Nat.le_of_ble_eq_true rfl) ?_
  have hcA : cB = cA := one_arr hK (i := 1) (j := 0) rfl rfl
  subst hcA
  generalize cB = cA at hK hP hD
  have hK : va_K (dC, dI) classes [(cA, .int)] s := hK.sub [0] rfl
  have hP : va_P (dC, dI) classes [(h0, .inr (1, [.int (nI 0), .ref q1, .null, .int (nI 0), .null, .null, .null])), (q1, .inl (cA, 48, .inl (nF (fun _ => 0)))), (q2, .inl (cA, 48, .inl (nF (fun _ => 0))))] H := hP
  have hD : va_D A [(h0, .inr (1, [.int (nI 0), .ref q1, .null, .int (nI 0), .null, .null, .null])), (q1, .inl (cA, 48, .inl (nF (fun _ => 0)))), (q2, .inl (cA, 48, .inl (nF (fun _ => 0))))] := hD
  refine va_put (pc := 17) (D := (dC, dI)) (ci := 1) (v := .ref q2) (ty := .array .int) (C := R_M) (T := F_M) (N := 7) hx hb hts i_M t_M t_M_ok n_M hown hK hP hD hS 0 rfl rfl 2 (by decide) (hts _ fl_M_copy) (fun _ h9 => h9) rfl (by decide +kernel) rfl rfl (Nat.le_of_ble_eq_true rfl) d_M_init_17 (fun H locs hP hD hS => ?_)
  have hP : va_P (dC, dI) classes [(h0, .inr (1, [.int (nI 0), .ref q1, .ref q2, .int (nI 0), .null, .null, .null])), (q1, .inl (cA, 48, .inl (nF (fun _ => 0)))), (q2, .inl (cA, 48, .inl (nF (fun _ => 0))))] H := hP
  have hD : va_D A [(h0, .inr (1, [.int (nI 0), .ref q1, .ref q2, .int (nI 0), .null, .null, .null])), (q1, .inl (cA, 48, .inl (nF (fun _ => 0)))), (q2, .inl (cA, 48, .inl (nF (fun _ => 0))))] := hD
  refine lv_aload_n (pc := 20) hx hb d_M_init_20 rfl (lv_at hl 0 rfl) ?_
  refine nr_bipush (pc := 21) hx hb 96 (by decide) d_M_init_21 ?_
  refine va_newa (pc := 23) (atype := .int) (D := (dC, dI)) (N' := 96) (a0 := (96, .inl (nF (fun _ => 0)))) (ty := .int) hx hb (hts _ ac_int) rfl hK hP hD hS hA (fun _ => rfl) (by decide) (by decide) (by decide) (Nat.le_of_ble_eq_true rfl) (Nat.le_of_ble_eq_true rfl) d_M_init_23 (fun q3 cB H hK hP hD hS => ?_)
  refine W.widen (k := 3) (n := 192) (Nat.le_of_ble_eq_true rfl) (Nat.le_of_ble_eq_true rfl) ?_
  have hcA : cB = cA := one_arr hK (i := 1) (j := 0) rfl rfl
  subst hcA
  generalize cB = cA at hK hP hD
  have hK : va_K (dC, dI) classes [(cA, .int)] s := hK.sub [0] rfl
  have hP : va_P (dC, dI) classes [(h0, .inr (1, [.int (nI 0), .ref q1, .ref q2, .int (nI 0), .null, .null, .null])), (q1, .inl (cA, 48, .inl (nF (fun _ => 0)))), (q2, .inl (cA, 48, .inl (nF (fun _ => 0)))), (q3, .inl (cA, 96, .inl (nF (fun _ => 0))))] H := hP
  have hD : va_D A [(h0, .inr (1, [.int (nI 0), .ref q1, .ref q2, .int (nI 0), .null, .null, .null])), (q1, .inl (cA, 48, .inl (nF (fun _ => 0)))), (q2, .inl (cA, 48, .inl (nF (fun _ => 0)))), (q3, .inl (cA, 96, .inl (nF (fun _ => 0))))] := hD
  refine va_put (pc := 25) (D := (dC, dI)) (ci := 1) (v := .ref q3) (ty := .array .int) (C := R_M) (T := F_M) (N := 7) hx hb hts i_M t_M t_M_ok n_M hown hK hP hD hS 0 rfl rfl 4 (by decide) (hts _ fl_M_first) (fun _ h9 => h9) rfl (by decide +kernel) rfl rfl (Nat.le_of_ble_eq_true rfl) d_M_init_25 (fun H locs hP hD hS => ?_)
  have hP : va_P (dC, dI) classes [(h0, .inr (1, [.int (nI 0), .ref q1, .ref q2, .int (nI 0), .ref q3, .null, .null])), (q1, .inl (cA, 48, .inl (nF (fun _ => 0)))), (q2, .inl (cA, 48, .inl (nF (fun _ => 0)))), (q3, .inl (cA, 96, .inl (nF (fun _ => 0))))] H := hP
  have hD : va_D A [(h0, .inr (1, [.int (nI 0), .ref q1, .ref q2, .int (nI 0), .ref q3, .null, .null])), (q1, .inl (cA, 48, .inl (nF (fun _ => 0)))), (q2, .inl (cA, 48, .inl (nF (fun _ => 0)))), (q3, .inl (cA, 96, .inl (nF (fun _ => 0))))] := hD
  refine lv_aload_n (pc := 28) hx hb d_M_init_28 rfl (lv_at hl 0 rfl) ?_
  refine nr_bipush (pc := 29) hx hb 96 (by decide) d_M_init_29 ?_
  refine va_newa (pc := 31) (atype := .int) (D := (dC, dI)) (N' := 96) (a0 := (96, .inl (nF (fun _ => 0)))) (ty := .int) hx hb (hts _ ac_int) rfl hK hP hD hS hA (fun _ => rfl) (by decide) (by decide) (by decide) (Nat.le_of_ble_eq_true rfl) (Nat.le_of_ble_eq_true rfl) d_M_init_31 (fun q4 cB H hK hP hD hS => ?_)
  refine W.widen (k := 4) (n := 288) (Nat.le_of_ble_eq_true rfl) (Nat.le_of_ble_eq_true rfl) ?_
  have hcA : cB = cA := one_arr hK (i := 1) (j := 0) rfl rfl
  subst hcA
  generalize cB = cA at hK hP hD
  have hK : va_K (dC, dI) classes [(cA, .int)] s := hK.sub [0] rfl
  have hP : va_P (dC, dI) classes [(h0, .inr (1, [.int (nI 0), .ref q1, .ref q2, .int (nI 0), .ref q3, .null, .null])), (q1, .inl (cA, 48, .inl (nF (fun _ => 0)))), (q2, .inl (cA, 48, .inl (nF (fun _ => 0)))), (q3, .inl (cA, 96, .inl (nF (fun _ => 0)))), (q4, .inl (cA, 96, .inl (nF (fun _ => 0))))] H := hP
  have hD : va_D A [(h0, .inr (1, [.int (nI 0), .ref q1, .ref q2, .int (nI 0), .ref q3, .null, .null])), (q1, .inl (cA, 48, .inl (nF (fun _ => 0)))), (q2, .inl (cA, 48, .inl (nF (fun _ => 0)))), (q3, .inl (cA, 96, .inl (nF (fun _ => 0)))), (q4, .inl (cA, 96, .inl (nF (fun _ => 0))))] := hD
  refine va_put (pc := 33) (D := (dC, dI)) (ci := 1) (v := .ref q4) (ty := .array .int) (C := R_M) (T := F_M) (N := 7) hx hb hts i_M t_M t_M_ok n_M hown hK hP hD hS 0 rfl rfl 5 (by decide) (hts _ fl_M_last) (fun _ h9 => h9) rfl (by decide +kernel) rfl rfl (Nat.le_of_ble_eq_true rfl) d_M_init_33 (fun H locs hP hD hS => ?_)
  have hP : va_P (dC, dI) classes [(h0, .inr (1, [.int (nI 0), .ref q1, .ref q2, .int (nI 0), .ref q3, .ref q4, .null])), (q1, .inl (cA, 48, .inl (nF (fun _ => 0)))), (q2, .inl (cA, 48, .inl (nF (fun _ => 0)))), (q3, .inl (cA, 96, .inl (nF (fun _ => 0)))), (q4, .inl (cA, 96, .inl (nF (fun _ => 0))))] H := hP
  have hD : va_D A [(h0, .inr (1, [.int (nI 0), .ref q1, .ref q2, .int (nI 0), .ref q3, .ref q4, .null])), (q1, .inl (cA, 48, .inl (nF (fun _ => 0)))), (q2, .inl (cA, 48, .inl (nF (fun _ => 0)))), (q3, .inl (cA, 96, .inl (nF (fun _ => 0)))), (q4, .inl (cA, 96, .inl (nF (fun _ => 0))))] := hD
  refine lv_aload_n (pc := 36) hx hb d_M_init_36 rfl (lv_at hl 0 rfl) ?_
  refine nr_bipush (pc := 37) hx hb 96 (by decide) d_M_init_37 ?_
  refine va_newa (pc := 39) (atype := .int) (D := (dC, dI)) (N' := 96) (a0 := (96, .inl (nF (fun _ => 0)))) (ty := .int) hx hb (hts _ ac_int) rfl hK hP hD hS hA (fun _ => rfl) (by decide) (by decide) (by decide) (Nat.le_of_ble_eq_true rfl) (Nat.le_of_ble_eq_true rfl) d_M_init_39 (fun q5 cB H hK hP hD hS => ?_)
  refine W.widen (k := 5) (n := 384) (Nat.le_of_ble_eq_true rfl) (Nat.le_of_ble_eq_true rfl) ?_
  have hcA : cB = cA := one_arr hK (i := 1) (j := 0) rfl rfl
  subst hcA
  generalize cB = cA at hK hP hD
  have hK : va_K (dC, dI) classes [(cA, .int)] s := hK.sub [0] rfl
  have hP : va_P (dC, dI) classes [(h0, .inr (1, [.int (nI 0), .ref q1, .ref q2, .int (nI 0), .ref q3, .ref q4, .null])), (q1, .inl (cA, 48, .inl (nF (fun _ => 0)))), (q2, .inl (cA, 48, .inl (nF (fun _ => 0)))), (q3, .inl (cA, 96, .inl (nF (fun _ => 0)))), (q4, .inl (cA, 96, .inl (nF (fun _ => 0)))), (q5, .inl (cA, 96, .inl (nF (fun _ => 0))))] H := hP
  have hD : va_D A [(h0, .inr (1, [.int (nI 0), .ref q1, .ref q2, .int (nI 0), .ref q3, .ref q4, .null])), (q1, .inl (cA, 48, .inl (nF (fun _ => 0)))), (q2, .inl (cA, 48, .inl (nF (fun _ => 0)))), (q3, .inl (cA, 96, .inl (nF (fun _ => 0)))), (q4, .inl (cA, 96, .inl (nF (fun _ => 0)))), (q5, .inl (cA, 96, .inl (nF (fun _ => 0))))] := hD
  refine va_put (pc := 41) (D := (dC, dI)) (ci := 1) (v := .ref q5) (ty := .array .int) (C := R_M) (T := F_M) (N := 7) hx hb hts i_M t_M t_M_ok n_M hown hK hP hD hS 0 rfl rfl 6 (by decide) (hts _ fl_M_least) (fun _ h9 => h9) rfl (by decide +kernel) rfl rfl (Nat.le_of_ble_eq_true rfl) d_M_init_41 (fun H locs hP hD hS => ?_)
  have hP : va_P (dC, dI) classes [(h0, .inr (1, [.int (nI 0), .ref q1, .ref q2, .int (nI 0), .ref q3, .ref q4, .ref q5])), (q1, .inl (cA, 48, .inl (nF (fun _ => 0)))), (q2, .inl (cA, 48, .inl (nF (fun _ => 0)))), (q3, .inl (cA, 96, .inl (nF (fun _ => 0)))), (q4, .inl (cA, 96, .inl (nF (fun _ => 0)))), (q5, .inl (cA, 96, .inl (nF (fun _ => 0))))] H := hP
  have hD : va_D A [(h0, .inr (1, [.int (nI 0), .ref q1, .ref q2, .int (nI 0), .ref q3, .ref q4, .ref q5])), (q1, .inl (cA, 48, .inl (nF (fun _ => 0)))), (q2, .inl (cA, 48, .inl (nF (fun _ => 0)))), (q3, .inl (cA, 96, .inl (nF (fun _ => 0)))), (q4, .inl (cA, 96, .inl (nF (fun _ => 0)))), (q5, .inl (cA, 96, .inl (nF (fun _ => 0))))] := hD
  obtain ⟨a, ha⟩ : ∃ a : Nat → Nat, a = fun k => match k with | 0 => h0 | 1 => q1 | 2 => q2 | 3 => q3 | 4 => q4 | _ => q5 := ⟨_, rfl⟩
  have hP9 : va_P (dC, dI) classes (M_w cA a M_0) H := by rw [ha]; exact hP
  have hD9 : va_D A (M_w cA a M_0) := by rw [ha]; exact hD
  exact W.vret (pc := 44) hx hb hr (fun t ht hW => ⟨⟨(), rfl, trivial, cA, a, congrFun ha 0, by rw [ht]; exact hP9, va_K.moved hW.alike hK, hD9⟩, hS.F ht⟩) hS.2.2 d_M_init_44
end
section
/-! THE CLAIM OUT OF ONE WALK OF THE LAW'S BODY. Your part is whole_start (and what it stands on); all else here is the same for every law, but numbers. -/
def R_law : String := "RunsFinderLaw"
def lw_P (b : Addr) (xs : List Int32) (args : Array Value) (s : State) : Prop := args = #[.ref b] ∧ s.IntsAt b xs ∧ xs.length ≤ 1536 ∧ (Jvm.Cond.and given_1 narrow_1).before args s = true
def lw_Q (_ : Array Value) (s : State) (o : Outcome) (t : State) : Prop := o = .returned (some (.int 1)) ∧ Framed s o t [] 12 796
def lw_Z (below : List Frame) (a : Array Value) (s : State) : State → Prop := fun t => ∃ o, t.status = .running ∧ Ended t below o ∧ lw_Q a s o t
/-- the law's own end, with 1 on the stack, nothing written that was there before, its room as the claim has it -/
theorem lw_ret {p : Program} {l : Launch} {e : Env} {s : State} {m : MethodId} {below : List Frame} {meth : Method} {c : Code} {b : Nat} (hx : p.tables.exec = Jvm.exec) (hb : c.code = code) (hr : meth.sig.returnType = ret) (hlocks : meth.locks = false) {pc : Nat} {H : Heap} {ls : Array Slot} (hdg : decode code pc = .ok (.ireturn, 1)) : W p l e room_1 s m #[Value.ref b] below meth c H [] 12 796 (lw_Z below #[Value.ref b] s) (F0 m pc ls [.int 1]) := by
  intro T hT X
  obtain ⟨fs, hret, hrun, hended, hW, hframe⟩ := X.leave (v := some (.int 1)) (hlocks := hlocks) (fun h => by rw [hr] at h; cases h)
  have hmeth' : T.vm.method? m = some meth := X.method'
  refine ⟨T.setFrames fs, ?_, .returned (some (.int 1)), hrun, hended, rfl, ⟨_, rfl⟩, hW, hframe⟩
  jvm_step X.here [X.here.top, hx, hb, hdg, hmeth', hr, ret, narrow_b1]
  (try refine ⟨rfl, ?_⟩); (try refine ⟨rfl, ?_⟩)
  first | (intro acts; rw [hret _ acts rfl rfl rfl]) | rw [hret _ _ rfl rfl rfl]
  exact Steps.refl _
/-- what holds at the law's entry: the machine, the code, the tables' words (any of lw_tbl by 'hts w (by decide +kernel)'), the script of L ints xs at the cell b, what the Statement gives of the start (any of its parts by flat_of_before) -/
def lw_At (p : Program) (s : State) (m : MethodId) (meth : Method) (c : Code) (b L : Nat) (xs : Nat → Int32) : Prop :=
  p.tables.exec = Jvm.exec ∧ c.code = code ∧ meth.sig.returnType = ret ∧ c.maxLocals = 4 ∧ s.vm.findClass R_law = some m.cls ∧ (∀ w ∈ lw_tbl, w.before #[Value.ref b] s = true) ∧ va_X b L xs s s.heap ∧ b < s.heap.size ∧ meth.locks = false ∧ (Jvm.Cond.and given_1 narrow_1).before #[Value.ref b] s = true
def L_I (dC : Nat → ClassId) (dI : Nat → Nat → Nat) (cA : ClassId) (a a' : Nat → Nat) (s : State) (H : Heap) (locs : List Loc) (u : XS) (v : MS) : Prop := va_P (dC, dI) classes (X_w cA a u ++ M_w cA a' v) H ∧ va_D (fun q : Nat => s.heap.size ≤ q) (X_w cA a u ++ M_w cA a' v) ∧ va_S (fun q : Nat => s.heap.size ≤ q) s.heap H locs ∧ va_K (dC, dI) classes [(cA, .int)] s
def L_J (dC : Nat → ClassId) (dI : Nat → Nat → Nat) (cA : ClassId) (a a' : Nat → Nat) (s : State) (H : Heap) (locs : List Loc) (u : XS) (v : MS) : Prop := va_P (dC, dI) classes (M_w cA a' v ++ X_w cA a u) H ∧ va_D (fun q : Nat => s.heap.size ≤ q) (M_w cA a' v ++ X_w cA a u) ∧ va_S (fun q : Nat => s.heap.size ≤ q) s.heap H locs ∧ va_K (dC, dI) classes [(cA, .int)] s
section RL
variable {p : Program} {l : Launch} {e : Env} {s : State} {m : MethodId} {args : Array Value} {below : List Frame} {meth : Method} {c : Code} {H : Heap} {locs : List Loc} {Q : State → Prop}
variable {pc : Nat} {ls : Array Slot} {rest : List Value} {dC : Nat → ClassId} {dI : Nat → Nat → Nat} {cA : ClassId} {a a' : Nat → Nat}
theorem L_callX {y : MethodName} {b : ByteArray} {maxL idx nA : Nat} {rt : Option FieldType} {rm : Room} (As : List Value) {st : List Value} {u : XS} {v : MS} {post : Int32 → XS → Prop} (S : CallFix p m c code 4 s args lw_gt R_law) (hM : X_Mi l dC dI cA a y b maxL rt rm As u post) (hk : lw_M R_law idx y b maxL rt) (hd : y.cls = R_X ∧ y.cls ≠ "java/lang/invoke/MethodHandle" ∧ y.cls ≠ "java/lang/invoke/VarHandle" ∧ (parseMethodDescriptor y.desc).map (fun d => d.parameters.length) = some nA) (hrc : rm.cells = 0) (hrs : rm.slots = 0) (hR : rm.frames + 1 ≤ room_1.frames ∧ 8 + (maxL + 11) + rm.locals ≤ room_1.locals) (I : L_I dC dI cA a a' s H locs u v) (hn : As.length = nA) (hsz : ls.size = 4) (hst : st = As.reverse ++ .ref (a 0) :: rest) (hW : (rest.map fun v => v.category).sum ≤ 8) (hdg : decode code pc = .ok (.invokevirtual idx, 3))
    (kk : ∀ (r : Int32) (w : XS) (H1 : Heap) (locs1 : List Loc), post r w → L_J dC dI cA a a' s H1 locs1 w v → W p l e room_1 s m args below meth c H1 locs1 12 796 Q (F0 m (pc + 3) ls (.int r :: rest))) : W p l e room_1 s m args below meth c H locs 12 796 Q (F0 m pc ls st) := by
  subst hst
  have hPc := I.1.sub (ws' := X_w cA a u) [0, 1, 2, 3, 4, 5] rfl
  have hDc := I.2.1.sub (ws' := X_w cA a u) [0, 1, 2, 3, 4, 5] (by decide) rfl
  have hFc := va_free (wc := X_w cA a u) I.2.1 I.2.2.1 (fun _ h => h) [0, 1, 2, 3, 4, 5] rfl
  refine va_calli (va_runV (As := As) (rest := rest) S (hM H.size) (X_cw S.2.2.2.2 hk hd hrc hrs hR) ⟨X_blind, va_recv I.2.2.2 hPc (ci := 0) (q0 := 0) rfl rfl, fun U hU hW => ⟨rfl, by rw [hU], by rw [hU]; exact hPc, va_K.moved hW.alike I.2.2.2, hDc.weaken (fun _ _ _ _ => trivial)⟩⟩ rfl hn hsz rfl (lv_room hW) hdg ⟨Nat.le_of_ble_eq_true rfl, Nat.le_of_ble_eq_true rfl⟩) I.2.2.1 (fun q _ h => hFc q h) hFc (fun r w t H1 locs1 ht hvm hw hB hz1 hk1 hS => ?_)
  obtain ⟨hP1, hK1, hD1⟩ := hB
  rw [ht] at hP1
  obtain ⟨hP, hD⟩ := va_join (wr := M_w cA a' v) (w1 := X_w cA a w) I.1 I.2.1 [0, 1, 2, 3, 4, 5] [6, 7, 8, 9, 10, 11] rfl rfl (by decide) (by decide) hk1 hFc hP1 hD1
  exact kk r w H1 locs1 hw ⟨hP, hD, hS, I.2.2.2⟩
theorem L_callM {y : MethodName} {b : ByteArray} {maxL idx nA : Nat} {rt : Option FieldType} {rm : Room} (As : List Value) {st : List Value} {u : XS} {v : MS} {post : Int32 → MS → Prop} (S : CallFix p m c code 4 s args lw_gt R_law) (hM : M_Mi l dC dI cA a' y b maxL rt rm As v post) (hk : lw_M R_law idx y b maxL rt) (hd : y.cls = R_M ∧ y.cls ≠ "java/lang/invoke/MethodHandle" ∧ y.cls ≠ "java/lang/invoke/VarHandle" ∧ (parseMethodDescriptor y.desc).map (fun d => d.parameters.length) = some nA) (hrc : rm.cells = 0) (hrs : rm.slots = 0) (hR : rm.frames + 1 ≤ room_1.frames ∧ 8 + (maxL + 11) + rm.locals ≤ room_1.locals) (I : L_J dC dI cA a a' s H locs u v) (hn : As.length = nA) (hsz : ls.size = 4) (hst : st = As.reverse ++ .ref (a' 0) :: rest) (hW : (rest.map fun v => v.category).sum ≤ 8) (hdg : decode code pc = .ok (.invokevirtual idx, 3))
    (kk : ∀ (r : Int32) (w : MS) (H1 : Heap) (locs1 : List Loc), post r w → L_I dC dI cA a a' s H1 locs1 u w → W p l e room_1 s m args below meth c H1 locs1 12 796 Q (F0 m (pc + 3) ls (.int r :: rest))) : W p l e room_1 s m args below meth c H locs 12 796 Q (F0 m pc ls st) := by
  subst hst
  have hPc := I.1.sub (ws' := M_w cA a' v) [0, 1, 2, 3, 4, 5] rfl
  have hDc := I.2.1.sub (ws' := M_w cA a' v) [0, 1, 2, 3, 4, 5] (by decide) rfl
  have hFc := va_free (wc := M_w cA a' v) I.2.1 I.2.2.1 (fun _ h => h) [0, 1, 2, 3, 4, 5] rfl
  refine va_calli (va_runV (As := As) (rest := rest) S (hM H.size) (M_cw S.2.2.2.2 hk hd hrc hrs hR) ⟨M_blind, va_recv I.2.2.2 hPc (ci := 1) (q0 := 0) rfl rfl, fun U hU hW => ⟨rfl, by rw [hU], by rw [hU]; exact hPc, va_K.moved hW.alike I.2.2.2, hDc.weaken (fun _ _ _ _ => trivial)⟩⟩ rfl hn hsz rfl (lv_room hW) hdg ⟨Nat.le_of_ble_eq_true rfl, Nat.le_of_ble_eq_true rfl⟩) I.2.2.1 (fun q _ h => hFc q h) hFc (fun r w t H1 locs1 ht hvm hw hB hz1 hk1 hS => ?_)
  obtain ⟨hP1, hK1, hD1⟩ := hB
  rw [ht] at hP1
  obtain ⟨hP, hD⟩ := va_join (wr := X_w cA a u) (w1 := M_w cA a' w) I.1 I.2.1 [0, 1, 2, 3, 4, 5] [6, 7, 8, 9, 10, 11] rfl rfl (by decide) (by decide) hk1 hFc hP1 hD1
  exact kk r w H1 locs1 hw ⟨hP, hD, hS, I.2.2.2⟩
theorem L_sld {b L : Nat} {xs : Nat → Int32} (S : CallFix p m c code 4 s args lw_gt R_law) (hX : va_X b L xs s s.heap) (hbl : b < s.heap.size) (hS : va_S (fun q : Nat => s.heap.size ≤ q) s.heap H locs) {k : Nat} (hk : k < L) (hL : L ≤ 1536) (hdg : decode code pc = .ok (.iaload, 1)) (kk : W p l e room_1 s m args below meth c H locs 12 796 Q (F0 m (pc + 1) ls (.int (xs k) :: rest))) : W p l e room_1 s m args below meth c H locs 12 796 Q (F0 m pc ls (.int (nI k) :: .ref b :: rest)) := va_sld S.1 S.2.1 hX hbl (Nat.not_le.mpr hbl) hS (vp_in_nI hk (by omega)) hdg (by rw [nI_clamp (by omega)]; exact kk)
theorem rj_icmp_gt {cc : ByteArray} {R : Room} {cells slots : Nat} (hx : p.tables.exec = Jvm.exec) (hb : c.code = cc) {a : Nat} {y : Int32} (ha : a < 2 ^ 31) {off : Int} {tgt : Nat} (hdg : decode cc pc = .ok (.if_icmp .gt off, 3)) (ht : (pc : Int) + off = (tgt : Int)) (kt : y.toInt < (a : Int) → W p l e R s m args below meth c H locs cells slots Q (F0 m tgt ls rest)) (kf : (a : Int) ≤ y.toInt → W p l e R s m args below meth c H locs cells slots Q (F0 m (pc + 3) ls rest)) : W p l e R s m args below meth c H locs cells slots Q (F0 m pc ls (.int y :: .int (nI a) :: rest)) := lv_icmp_gt hx hb hdg ht (fun h => kt (by rw [Int32.lt_iff_toInt_lt, nI_toInt ha] at h; exact h)) (fun h => kf (by rw [Int32.lt_iff_toInt_lt, nI_toInt ha] at h; omega))
end RL
end
section
set_option maxHeartbeats 4000000 in
set_option maxRecDepth 20000 in
/-- the law: push -/
theorem law_c0 {p : Program} {l : Launch} {e : Env} {s : State} {m : MethodId} {below : List Frame} {meth : Method} {c : Code} {dC : Nat → ClassId} {dI : Nat → Nat → Nat} {cA : ClassId} {a a' : Nat → Nat} {b L : Nat} {xs : Nat → Int32} {Q : State → Prop} (S : CallFix p m c code 4 s #[Value.ref b] lw_gt R_law) (hX : va_X b L xs s s.heap) (hbl : b < s.heap.size) (hL : L ≤ 1536) {i : Nat} (hi : i + 3 ≤ L) {T : Nat → Nat} {n : Nat} (htx : rf_tx T n) {u : XS} {v : MS} (hu : X_ok T n u) (hv : M_ok T n v) {H : Heap} {locs : List Loc} (I : L_I dC dI cA a a' s H locs u v) {ls : Array Slot} (hl : lv_has ls 4 [(3, .int (nI i)), (2, .ref (a' 0)), (1, .ref (a 0)), (0, .ref b)]) (kend : ∀ (T : Nat → Nat) (n : Nat) (u : XS) (v : MS) (H : Heap) (locs : List Loc), rf_tx T n → X_ok T n u → M_ok T n v → L_I dC dI cA a a' s H locs u v → W p l e room_1 s m #[Value.ref b] below meth c H locs 12 796 Q (F0 m 541 ls [])) : W p l e room_1 s m #[Value.ref b] below meth c H locs 12 796 Q (F0 m 124 ls []) := by
  have hx := S.1
  have hb := S.2.1
  obtain ⟨hT, hn⟩ := id htx
  obtain ⟨Af, Fi, La, St, rc, cu, rfl, hcu⟩ := hu
  obtain ⟨Cp, Fm, Lm, Lem, fo, rfl⟩ := hv
  refine lv_aload_n (pc := 124) hx hb d_L_law_124 rfl (lv_at hl 2 rfl) ?_
  refine lv_aload_n (pc := 125) hx hb d_L_law_125 rfl (lv_at hl 3 rfl) ?_
  refine lv_iload_n (pc := 126) hx hb d_L_law_126 rfl (lv_at hl 0 rfl) ?_
  refine nr_iconst (pc := 127) hx hb 1 rfl d_L_law_127 ?_
  refine nr_iadd (pc := 128) hx hb d_L_law_128 ?_
  refine L_sld (pc := 129) S hX hbl I.2.2.1 (by omega) hL d_L_law_129 ?_
  refine L_callX (pc := 130) (rest := []) [.int (xs (i + 1))] S (c_X_push l dC dI cA a T Af Fi La St n rc cu (xs (i + 1)) hn hT hcu) k_L_X_push e_X_push rfl rfl ⟨Nat.le_of_ble_eq_true rfl, Nat.le_of_ble_eq_true rfl⟩ I rfl hl.1 rfl (Nat.le_of_ble_eq_true rfl) d_L_law_130 (fun r1 w1 H locs hw1 I => ?_)
  refine lv_aload_n (pc := 133) hx hb d_L_law_133 rfl (lv_at hl 1 rfl) ?_
  refine lv_aload_n (pc := 134) hx hb d_L_law_134 rfl (lv_at hl 3 rfl) ?_
  refine lv_iload_n (pc := 135) hx hb d_L_law_135 rfl (lv_at hl 0 rfl) ?_
  refine nr_iconst (pc := 136) hx hb 1 rfl d_L_law_136 ?_
  refine nr_iadd (pc := 137) hx hb d_L_law_137 ?_
  refine L_sld (pc := 138) S hX hbl I.2.2.1 (by omega) hL d_L_law_138 ?_
  refine L_callM (pc := 139) (rest := [.int r1]) [.int (xs (i + 1))] S (c_M_push l dC dI cA a' T Cp Fm Lm Lem n fo (xs (i + 1)) hn hT) k_L_M_push e_M_push rfl rfl ⟨Nat.le_of_ble_eq_true rfl, Nat.le_of_ble_eq_true rfl⟩ I rfl hl.1 rfl (Nat.le_of_ble_eq_true rfl) d_L_law_139 (fun r2 w2 H locs hw2 I => ?_)
  obtain ⟨T1, n1, hA1, hX1⟩ := hw1
  obtain ⟨T2, n2, hA2, hM2⟩ := hw2
  obtain ⟨er, rfl, rfl⟩ := rf_uPush hA1 hA2
  refine lv_icmp_eq (pc := 142) (tgt := 541) hx hb d_L_law_142 (by decide) (fun _ => ?_) (fun w => absurd er w)
  exact kend _ _ _ _ _ _ (rf_tPush htx hA1) hX1 hM2 I
set_option maxHeartbeats 4000000 in
set_option maxRecDepth 20000 in
/-- the law: pop -/
theorem law_c1 {p : Program} {l : Launch} {e : Env} {s : State} {m : MethodId} {below : List Frame} {meth : Method} {c : Code} {dC : Nat → ClassId} {dI : Nat → Nat → Nat} {cA : ClassId} {a a' : Nat → Nat} {b L : Nat} {xs : Nat → Int32} {Q : State → Prop} (S : CallFix p m c code 4 s #[Value.ref b] lw_gt R_law) (hX : va_X b L xs s s.heap) (hbl : b < s.heap.size) (hL : L ≤ 1536) {i : Nat} (hi : i + 3 ≤ L) {T : Nat → Nat} {n : Nat} (htx : rf_tx T n) {u : XS} {v : MS} (hu : X_ok T n u) (hv : M_ok T n v) {H : Heap} {locs : List Loc} (I : L_I dC dI cA a a' s H locs u v) {ls : Array Slot} (hl : lv_has ls 4 [(3, .int (nI i)), (2, .ref (a' 0)), (1, .ref (a 0)), (0, .ref b)]) (kend : ∀ (T : Nat → Nat) (n : Nat) (u : XS) (v : MS) (H : Heap) (locs : List Loc), rf_tx T n → X_ok T n u → M_ok T n v → L_I dC dI cA a a' s H locs u v → W p l e room_1 s m #[Value.ref b] below meth c H locs 12 796 Q (F0 m 541 ls [])) : W p l e room_1 s m #[Value.ref b] below meth c H locs 12 796 Q (F0 m 147 ls []) := by
  have hx := S.1
  have hb := S.2.1
  obtain ⟨hT, hn⟩ := id htx
  obtain ⟨Af, Fi, La, St, rc, cu, rfl, hcu⟩ := hu
  obtain ⟨Cp, Fm, Lm, Lem, fo, rfl⟩ := hv
  refine lv_aload_n (pc := 147) hx hb d_L_law_147 rfl (lv_at hl 2 rfl) ?_
  refine lv_aload_n (pc := 148) hx hb d_L_law_148 rfl (lv_at hl 3 rfl) ?_
  refine lv_iload_n (pc := 149) hx hb d_L_law_149 rfl (lv_at hl 0 rfl) ?_
  refine nr_iconst (pc := 150) hx hb 1 rfl d_L_law_150 ?_
  refine nr_iadd (pc := 151) hx hb d_L_law_151 ?_
  refine L_sld (pc := 152) S hX hbl I.2.2.1 (by omega) hL d_L_law_152 ?_
  refine L_callX (pc := 153) (rest := []) [.int (xs (i + 1))] S (c_X_pop l dC dI cA a T Af Fi La St n rc cu (xs (i + 1)) hn hT hcu) k_L_X_pop e_X_pop rfl rfl ⟨Nat.le_of_ble_eq_true rfl, Nat.le_of_ble_eq_true rfl⟩ I rfl hl.1 rfl (Nat.le_of_ble_eq_true rfl) d_L_law_153 (fun r1 w1 H locs hw1 I => ?_)
  refine lv_aload_n (pc := 156) hx hb d_L_law_156 rfl (lv_at hl 1 rfl) ?_
  refine lv_aload_n (pc := 157) hx hb d_L_law_157 rfl (lv_at hl 3 rfl) ?_
  refine lv_iload_n (pc := 158) hx hb d_L_law_158 rfl (lv_at hl 0 rfl) ?_
  refine nr_iconst (pc := 159) hx hb 1 rfl d_L_law_159 ?_
  refine nr_iadd (pc := 160) hx hb d_L_law_160 ?_
  refine L_sld (pc := 161) S hX hbl I.2.2.1 (by omega) hL d_L_law_161 ?_
  refine L_callM (pc := 162) (rest := [.int r1]) [.int (xs (i + 1))] S (c_M_pop l dC dI cA a' T Cp Fm Lm Lem n fo (xs (i + 1)) hn hT) k_L_M_pop e_M_pop rfl rfl ⟨Nat.le_of_ble_eq_true rfl, Nat.le_of_ble_eq_true rfl⟩ I rfl hl.1 rfl (Nat.le_of_ble_eq_true rfl) d_L_law_162 (fun r2 w2 H locs hw2 I => ?_)
  obtain ⟨T1, n1, hA1, hX1⟩ := hw1
  obtain ⟨T2, n2, hA2, hM2⟩ := hw2
  obtain ⟨er, rfl, rfl⟩ := rf_uPop hn hA1 hA2
  refine lv_icmp_eq (pc := 165) (tgt := 541) hx hb d_L_law_165 (by decide) (fun _ => ?_) (fun w => absurd er w)
  exact kend _ _ _ _ _ _ (rf_tPop htx hA1) hX1 hM2 I
set_option maxHeartbeats 4000000 in
set_option maxRecDepth 20000 in
/-- the law: repeat -/
theorem law_c2 {p : Program} {l : Launch} {e : Env} {s : State} {m : MethodId} {below : List Frame} {meth : Method} {c : Code} {dC : Nat → ClassId} {dI : Nat → Nat → Nat} {cA : ClassId} {a a' : Nat → Nat} {b L : Nat} {xs : Nat → Int32} {Q : State → Prop} (S : CallFix p m c code 4 s #[Value.ref b] lw_gt R_law) (hX : va_X b L xs s s.heap) (hbl : b < s.heap.size) (hL : L ≤ 1536) {i : Nat} (hi : i + 3 ≤ L) {T : Nat → Nat} {n : Nat} (htx : rf_tx T n) {u : XS} {v : MS} (hu : X_ok T n u) (hv : M_ok T n v) {H : Heap} {locs : List Loc} (I : L_I dC dI cA a a' s H locs u v) {ls : Array Slot} (hl : lv_has ls 4 [(3, .int (nI i)), (2, .ref (a' 0)), (1, .ref (a 0)), (0, .ref b)]) (kend : ∀ (T : Nat → Nat) (n : Nat) (u : XS) (v : MS) (H : Heap) (locs : List Loc), rf_tx T n → X_ok T n u → M_ok T n v → L_I dC dI cA a a' s H locs u v → W p l e room_1 s m #[Value.ref b] below meth c H locs 12 796 Q (F0 m 541 ls [])) : W p l e room_1 s m #[Value.ref b] below meth c H locs 12 796 Q (F0 m 170 ls []) := by
  have hx := S.1
  have hb := S.2.1
  obtain ⟨hT, hn⟩ := id htx
  obtain ⟨Af, Fi, La, St, rc, cu, rfl, hcu⟩ := hu
  obtain ⟨Cp, Fm, Lm, Lem, fo, rfl⟩ := hv
  refine lv_aload_n (pc := 170) hx hb d_L_law_170 rfl (lv_at hl 2 rfl) ?_
  refine lv_aload_n (pc := 171) hx hb d_L_law_171 rfl (lv_at hl 3 rfl) ?_
  refine lv_iload_n (pc := 172) hx hb d_L_law_172 rfl (lv_at hl 0 rfl) ?_
  refine nr_iconst (pc := 173) hx hb 1 rfl d_L_law_173 ?_
  refine nr_iadd (pc := 174) hx hb d_L_law_174 ?_
  refine L_sld (pc := 175) S hX hbl I.2.2.1 (by omega) hL d_L_law_175 ?_
  refine lv_aload_n (pc := 176) hx hb d_L_law_176 rfl (lv_at hl 3 rfl) ?_
  refine lv_iload_n (pc := 177) hx hb d_L_law_177 rfl (lv_at hl 0 rfl) ?_
  refine nr_iconst (pc := 178) hx hb 2 rfl d_L_law_178 ?_
  refine nr_iadd (pc := 179) hx hb d_L_law_179 ?_
  refine L_sld (pc := 180) S hX hbl I.2.2.1 (by omega) hL d_L_law_180 ?_
  refine L_callX (pc := 181) (rest := []) [.int (xs (i + 1)), .int (xs (i + 2))] S (c_X_repeat l dC dI cA a T Af Fi La St n rc cu (xs (i + 1)) (xs (i + 2)) hn hT hcu) k_L_X_repeat e_X_repeat rfl rfl ⟨Nat.le_of_ble_eq_true rfl, Nat.le_of_ble_eq_true rfl⟩ I rfl hl.1 rfl (Nat.le_of_ble_eq_true rfl) d_L_law_181 (fun r1 w1 H locs hw1 I => ?_)
  refine lv_aload_n (pc := 184) hx hb d_L_law_184 rfl (lv_at hl 1 rfl) ?_
  refine lv_aload_n (pc := 185) hx hb d_L_law_185 rfl (lv_at hl 3 rfl) ?_
  refine lv_iload_n (pc := 186) hx hb d_L_law_186 rfl (lv_at hl 0 rfl) ?_
  refine nr_iconst (pc := 187) hx hb 1 rfl d_L_law_187 ?_
  refine nr_iadd (pc := 188) hx hb d_L_law_188 ?_
  refine L_sld (pc := 189) S hX hbl I.2.2.1 (by omega) hL d_L_law_189 ?_
  refine lv_aload_n (pc := 190) hx hb d_L_law_190 rfl (lv_at hl 3 rfl) ?_
  refine lv_iload_n (pc := 191) hx hb d_L_law_191 rfl (lv_at hl 0 rfl) ?_
  refine nr_iconst (pc := 192) hx hb 2 rfl d_L_law_192 ?_
  refine nr_iadd (pc := 193) hx hb d_L_law_193 ?_
  refine L_sld (pc := 194) S hX hbl I.2.2.1 (by omega) hL d_L_law_194 ?_
  refine L_callM (pc := 195) (rest := [.int r1]) [.int (xs (i + 1)), .int (xs (i + 2))] S (c_M_repeat l dC dI cA a' T Cp Fm Lm Lem n fo (xs (i + 1)) (xs (i + 2)) hn hT) k_L_M_repeat e_M_repeat rfl rfl ⟨Nat.le_of_ble_eq_true rfl, Nat.le_of_ble_eq_true rfl⟩ I rfl hl.1 rfl (Nat.le_of_ble_eq_true rfl) d_L_law_195 (fun r2 w2 H locs hw2 I => ?_)
  obtain ⟨T1, n1, hA1, hX1⟩ := hw1
  obtain ⟨T2, n2, hA2, hM2⟩ := hw2
  obtain ⟨er, rfl, rfl⟩ := rf_uRep hn hA1 hA2
  refine lv_icmp_eq (pc := 198) (tgt := 541) hx hb d_L_law_198 (by decide) (fun _ => ?_) (fun w => absurd er w)
  exact kend _ _ _ _ _ _ (rf_tRep htx hA1) hX1 hM2 I
set_option maxHeartbeats 4000000 in
set_option maxRecDepth 20000 in
/-- the law: set -/
theorem law_c3 {p : Program} {l : Launch} {e : Env} {s : State} {m : MethodId} {below : List Frame} {meth : Method} {c : Code} {dC : Nat → ClassId} {dI : Nat → Nat → Nat} {cA : ClassId} {a a' : Nat → Nat} {b L : Nat} {xs : Nat → Int32} {Q : State → Prop} (S : CallFix p m c code 4 s #[Value.ref b] lw_gt R_law) (hX : va_X b L xs s s.heap) (hbl : b < s.heap.size) (hL : L ≤ 1536) {i : Nat} (hi : i + 3 ≤ L) {T : Nat → Nat} {n : Nat} (htx : rf_tx T n) {u : XS} {v : MS} (hu : X_ok T n u) (hv : M_ok T n v) {H : Heap} {locs : List Loc} (I : L_I dC dI cA a a' s H locs u v) {ls : Array Slot} (hl : lv_has ls 4 [(3, .int (nI i)), (2, .ref (a' 0)), (1, .ref (a 0)), (0, .ref b)]) (kend : ∀ (T : Nat → Nat) (n : Nat) (u : XS) (v : MS) (H : Heap) (locs : List Loc), rf_tx T n → X_ok T n u → M_ok T n v → L_I dC dI cA a a' s H locs u v → W p l e room_1 s m #[Value.ref b] below meth c H locs 12 796 Q (F0 m 541 ls [])) : W p l e room_1 s m #[Value.ref b] below meth c H locs 12 796 Q (F0 m 203 ls []) := by
  have hx := S.1
  have hb := S.2.1
  obtain ⟨hT, hn⟩ := id htx
  obtain ⟨Af, Fi, La, St, rc, cu, rfl, hcu⟩ := hu
  obtain ⟨Cp, Fm, Lm, Lem, fo, rfl⟩ := hv
  refine lv_aload_n (pc := 203) hx hb d_L_law_203 rfl (lv_at hl 2 rfl) ?_
  refine lv_aload_n (pc := 204) hx hb d_L_law_204 rfl (lv_at hl 3 rfl) ?_
  refine lv_iload_n (pc := 205) hx hb d_L_law_205 rfl (lv_at hl 0 rfl) ?_
  refine nr_iconst (pc := 206) hx hb 1 rfl d_L_law_206 ?_
  refine nr_iadd (pc := 207) hx hb d_L_law_207 ?_
  refine L_sld (pc := 208) S hX hbl I.2.2.1 (by omega) hL d_L_law_208 ?_
  refine lv_aload_n (pc := 209) hx hb d_L_law_209 rfl (lv_at hl 3 rfl) ?_
  refine lv_iload_n (pc := 210) hx hb d_L_law_210 rfl (lv_at hl 0 rfl) ?_
  refine nr_iconst (pc := 211) hx hb 2 rfl d_L_law_211 ?_
  refine nr_iadd (pc := 212) hx hb d_L_law_212 ?_
  refine L_sld (pc := 213) S hX hbl I.2.2.1 (by omega) hL d_L_law_213 ?_
  refine L_callX (pc := 214) (rest := []) [.int (xs (i + 1)), .int (xs (i + 2))] S (c_X_set l dC dI cA a T Af Fi La St n rc cu (xs (i + 1)) (xs (i + 2)) hn hT hcu) k_L_X_set e_X_set rfl rfl ⟨Nat.le_of_ble_eq_true rfl, Nat.le_of_ble_eq_true rfl⟩ I rfl hl.1 rfl (Nat.le_of_ble_eq_true rfl) d_L_law_214 (fun r1 w1 H locs hw1 I => ?_)
  refine lv_aload_n (pc := 217) hx hb d_L_law_217 rfl (lv_at hl 1 rfl) ?_
  refine lv_aload_n (pc := 218) hx hb d_L_law_218 rfl (lv_at hl 3 rfl) ?_
  refine lv_iload_n (pc := 219) hx hb d_L_law_219 rfl (lv_at hl 0 rfl) ?_
  refine nr_iconst (pc := 220) hx hb 1 rfl d_L_law_220 ?_
  refine nr_iadd (pc := 221) hx hb d_L_law_221 ?_
  refine L_sld (pc := 222) S hX hbl I.2.2.1 (by omega) hL d_L_law_222 ?_
  refine lv_aload_n (pc := 223) hx hb d_L_law_223 rfl (lv_at hl 3 rfl) ?_
  refine lv_iload_n (pc := 224) hx hb d_L_law_224 rfl (lv_at hl 0 rfl) ?_
  refine nr_iconst (pc := 225) hx hb 2 rfl d_L_law_225 ?_
  refine nr_iadd (pc := 226) hx hb d_L_law_226 ?_
  refine L_sld (pc := 227) S hX hbl I.2.2.1 (by omega) hL d_L_law_227 ?_
  refine L_callM (pc := 228) (rest := [.int r1]) [.int (xs (i + 1)), .int (xs (i + 2))] S (c_M_set l dC dI cA a' T Cp Fm Lm Lem n fo (xs (i + 1)) (xs (i + 2)) hn hT) k_L_M_set e_M_set rfl rfl ⟨Nat.le_of_ble_eq_true rfl, Nat.le_of_ble_eq_true rfl⟩ I rfl hl.1 rfl (Nat.le_of_ble_eq_true rfl) d_L_law_228 (fun r2 w2 H locs hw2 I => ?_)
  obtain ⟨T1, n1, hA1, hX1⟩ := hw1
  obtain ⟨T2, n2, hA2, hM2⟩ := hw2
  obtain ⟨er, rfl, rfl⟩ := rf_uSet hn hA1 hA2
  refine lv_icmp_eq (pc := 231) (tgt := 541) hx hb d_L_law_231 (by decide) (fun _ => ?_) (fun w => absurd er w)
  exact kend _ _ _ _ _ _ (rf_tSet htx hA1) hX1 hM2 I
set_option maxHeartbeats 4000000 in
set_option maxRecDepth 20000 in
/-- the law: reverse -/
theorem law_c4 {p : Program} {l : Launch} {e : Env} {s : State} {m : MethodId} {below : List Frame} {meth : Method} {c : Code} {dC : Nat → ClassId} {dI : Nat → Nat → Nat} {cA : ClassId} {a a' : Nat → Nat} {b L : Nat} {xs : Nat → Int32} {Q : State → Prop} (S : CallFix p m c code 4 s #[Value.ref b] lw_gt R_law) (hX : va_X b L xs s s.heap) (hbl : b < s.heap.size) (hL : L ≤ 1536) {i : Nat} (hi : i + 3 ≤ L) {T : Nat → Nat} {n : Nat} (htx : rf_tx T n) {u : XS} {v : MS} (hu : X_ok T n u) (hv : M_ok T n v) {H : Heap} {locs : List Loc} (I : L_I dC dI cA a a' s H locs u v) {ls : Array Slot} (hl : lv_has ls 4 [(3, .int (nI i)), (2, .ref (a' 0)), (1, .ref (a 0)), (0, .ref b)]) (kend : ∀ (T : Nat → Nat) (n : Nat) (u : XS) (v : MS) (H : Heap) (locs : List Loc), rf_tx T n → X_ok T n u → M_ok T n v → L_I dC dI cA a a' s H locs u v → W p l e room_1 s m #[Value.ref b] below meth c H locs 12 796 Q (F0 m 541 ls [])) : W p l e room_1 s m #[Value.ref b] below meth c H locs 12 796 Q (F0 m 236 ls []) := by
  have hx := S.1
  have hb := S.2.1
  obtain ⟨hT, hn⟩ := id htx
  obtain ⟨Af, Fi, La, St, rc, cu, rfl, hcu⟩ := hu
  obtain ⟨Cp, Fm, Lm, Lem, fo, rfl⟩ := hv
  refine lv_aload_n (pc := 236) hx hb d_L_law_236 rfl (lv_at hl 2 rfl) ?_
  refine L_callX (pc := 237) (rest := []) [] S (c_X_reverse l dC dI cA a T Af Fi La St n rc cu hn hT hcu) k_L_X_reverse e_X_reverse rfl rfl ⟨Nat.le_of_ble_eq_true rfl, Nat.le_of_ble_eq_true rfl⟩ I rfl hl.1 rfl (Nat.le_of_ble_eq_true rfl) d_L_law_237 (fun r1 w1 H locs hw1 I => ?_)
  refine lv_aload_n (pc := 240) hx hb d_L_law_240 rfl (lv_at hl 1 rfl) ?_
  refine L_callM (pc := 241) (rest := [.int r1]) [] S (c_M_reverse l dC dI cA a' T Cp Fm Lm Lem n fo hn hT) k_L_M_reverse e_M_reverse rfl rfl ⟨Nat.le_of_ble_eq_true rfl, Nat.le_of_ble_eq_true rfl⟩ I rfl hl.1 rfl (Nat.le_of_ble_eq_true rfl) d_L_law_241 (fun r2 w2 H locs hw2 I => ?_)
  obtain ⟨T1, n1, hA1, hX1⟩ := hw1
  obtain ⟨T2, n2, hA2, hM2⟩ := hw2
  obtain ⟨er, rfl, rfl⟩ := rf_uRev hA1 hA2
  refine lv_icmp_eq (pc := 244) (tgt := 541) hx hb d_L_law_244 (by decide) (fun _ => ?_) (fun w => absurd er w)
  exact kend _ _ _ _ _ _ (rf_tRev htx hA1) hX1 hM2 I
set_option maxHeartbeats 4000000 in
set_option maxRecDepth 20000 in
/-- the law: length -/
theorem law_c5 {p : Program} {l : Launch} {e : Env} {s : State} {m : MethodId} {below : List Frame} {meth : Method} {c : Code} {dC : Nat → ClassId} {dI : Nat → Nat → Nat} {cA : ClassId} {a a' : Nat → Nat} {b L : Nat} {xs : Nat → Int32} {Q : State → Prop} (S : CallFix p m c code 4 s #[Value.ref b] lw_gt R_law) (hX : va_X b L xs s s.heap) (hbl : b < s.heap.size) (hL : L ≤ 1536) {i : Nat} (hi : i + 3 ≤ L) {T : Nat → Nat} {n : Nat} (htx : rf_tx T n) {u : XS} {v : MS} (hu : X_ok T n u) (hv : M_ok T n v) {H : Heap} {locs : List Loc} (I : L_I dC dI cA a a' s H locs u v) {ls : Array Slot} (hl : lv_has ls 4 [(3, .int (nI i)), (2, .ref (a' 0)), (1, .ref (a 0)), (0, .ref b)]) (kend : ∀ (T : Nat → Nat) (n : Nat) (u : XS) (v : MS) (H : Heap) (locs : List Loc), rf_tx T n → X_ok T n u → M_ok T n v → L_I dC dI cA a a' s H locs u v → W p l e room_1 s m #[Value.ref b] below meth c H locs 12 796 Q (F0 m 541 ls [])) : W p l e room_1 s m #[Value.ref b] below meth c H locs 12 796 Q (F0 m 249 ls []) := by
  have hx := S.1
  have hb := S.2.1
  obtain ⟨hT, hn⟩ := id htx
  obtain ⟨Af, Fi, La, St, rc, cu, rfl, hcu⟩ := hu
  obtain ⟨Cp, Fm, Lm, Lem, fo, rfl⟩ := hv
  refine lv_aload_n (pc := 249) hx hb d_L_law_249 rfl (lv_at hl 2 rfl) ?_
  refine L_callX (pc := 250) (rest := []) [] S (c_X_length l dC dI cA a T Af Fi La St n rc cu hn hT hcu) k_L_X_length e_X_length rfl rfl ⟨Nat.le_of_ble_eq_true rfl, Nat.le_of_ble_eq_true rfl⟩ I rfl hl.1 rfl (Nat.le_of_ble_eq_true rfl) d_L_law_250 (fun r1 w1 H locs hw1 I => ?_)
  refine lv_aload_n (pc := 253) hx hb d_L_law_253 rfl (lv_at hl 1 rfl) ?_
  refine L_callM (pc := 254) (rest := [.int r1]) [] S (c_M_length l dC dI cA a' T Cp Fm Lm Lem n fo) k_L_M_length e_M_length rfl rfl ⟨Nat.le_of_ble_eq_true rfl, Nat.le_of_ble_eq_true rfl⟩ I rfl hl.1 rfl (Nat.le_of_ble_eq_true rfl) d_L_law_254 (fun r2 w2 H locs hw2 I => ?_)
  obtain ⟨hA1, hX1⟩ := hw1
  obtain ⟨hA2, hM2⟩ := hw2
  have er := rf_uLen hA1 hA2
  refine lv_icmp_eq (pc := 257) (tgt := 541) hx hb d_L_law_257 (by decide) (fun _ => ?_) (fun w => absurd er w)
  exact kend _ _ _ _ _ _ htx hX1 hM2 I
set_option maxHeartbeats 4000000 in
set_option maxRecDepth 20000 in
/-- the law: symbol -/
theorem law_c6 {p : Program} {l : Launch} {e : Env} {s : State} {m : MethodId} {below : List Frame} {meth : Method} {c : Code} {dC : Nat → ClassId} {dI : Nat → Nat → Nat} {cA : ClassId} {a a' : Nat → Nat} {b L : Nat} {xs : Nat → Int32} {Q : State → Prop} (S : CallFix p m c code 4 s #[Value.ref b] lw_gt R_law) (hX : va_X b L xs s s.heap) (hbl : b < s.heap.size) (hL : L ≤ 1536) {i : Nat} (hi : i + 3 ≤ L) {T : Nat → Nat} {n : Nat} (htx : rf_tx T n) {u : XS} {v : MS} (hu : X_ok T n u) (hv : M_ok T n v) {H : Heap} {locs : List Loc} (I : L_I dC dI cA a a' s H locs u v) {ls : Array Slot} (hl : lv_has ls 4 [(3, .int (nI i)), (2, .ref (a' 0)), (1, .ref (a 0)), (0, .ref b)]) (kend : ∀ (T : Nat → Nat) (n : Nat) (u : XS) (v : MS) (H : Heap) (locs : List Loc), rf_tx T n → X_ok T n u → M_ok T n v → L_I dC dI cA a a' s H locs u v → W p l e room_1 s m #[Value.ref b] below meth c H locs 12 796 Q (F0 m 541 ls [])) : W p l e room_1 s m #[Value.ref b] below meth c H locs 12 796 Q (F0 m 262 ls []) := by
  have hx := S.1
  have hb := S.2.1
  obtain ⟨hT, hn⟩ := id htx
  obtain ⟨Af, Fi, La, St, rc, cu, rfl, hcu⟩ := hu
  obtain ⟨Cp, Fm, Lm, Lem, fo, rfl⟩ := hv
  refine lv_aload_n (pc := 262) hx hb d_L_law_262 rfl (lv_at hl 2 rfl) ?_
  refine lv_aload_n (pc := 263) hx hb d_L_law_263 rfl (lv_at hl 3 rfl) ?_
  refine lv_iload_n (pc := 264) hx hb d_L_law_264 rfl (lv_at hl 0 rfl) ?_
  refine nr_iconst (pc := 265) hx hb 1 rfl d_L_law_265 ?_
  refine nr_iadd (pc := 266) hx hb d_L_law_266 ?_
  refine L_sld (pc := 267) S hX hbl I.2.2.1 (by omega) hL d_L_law_267 ?_
  refine L_callX (pc := 268) (rest := []) [.int (xs (i + 1))] S (c_X_symbol l dC dI cA a T Af Fi La St n rc cu (xs (i + 1)) hn hT hcu) k_L_X_symbol e_X_symbol rfl rfl ⟨Nat.le_of_ble_eq_true rfl, Nat.le_of_ble_eq_true rfl⟩ I rfl hl.1 rfl (Nat.le_of_ble_eq_true rfl) d_L_law_268 (fun r1 w1 H locs hw1 I => ?_)
  refine lv_aload_n (pc := 271) hx hb d_L_law_271 rfl (lv_at hl 1 rfl) ?_
  refine lv_aload_n (pc := 272) hx hb d_L_law_272 rfl (lv_at hl 3 rfl) ?_
  refine lv_iload_n (pc := 273) hx hb d_L_law_273 rfl (lv_at hl 0 rfl) ?_
  refine nr_iconst (pc := 274) hx hb 1 rfl d_L_law_274 ?_
  refine nr_iadd (pc := 275) hx hb d_L_law_275 ?_
  refine L_sld (pc := 276) S hX hbl I.2.2.1 (by omega) hL d_L_law_276 ?_
  refine L_callM (pc := 277) (rest := [.int r1]) [.int (xs (i + 1))] S (c_M_symbol l dC dI cA a' T Cp Fm Lm Lem n fo (xs (i + 1)) hn hT) k_L_M_symbol e_M_symbol rfl rfl ⟨Nat.le_of_ble_eq_true rfl, Nat.le_of_ble_eq_true rfl⟩ I rfl hl.1 rfl (Nat.le_of_ble_eq_true rfl) d_L_law_277 (fun r2 w2 H locs hw2 I => ?_)
  obtain ⟨hA1, hX1⟩ := hw1
  obtain ⟨hA2, hM2⟩ := hw2
  have er := rf_uSym (by omega) (fun _ _ => rfl) hA1 hA2
  refine lv_icmp_eq (pc := 280) (tgt := 541) hx hb d_L_law_280 (by decide) (fun _ => ?_) (fun w => absurd er w)
  exact kend _ _ _ _ _ _ htx hX1 hM2 I
set_option maxHeartbeats 4000000 in
set_option maxRecDepth 20000 in
/-- the law: runs -/
theorem law_c7 {p : Program} {l : Launch} {e : Env} {s : State} {m : MethodId} {below : List Frame} {meth : Method} {c : Code} {dC : Nat → ClassId} {dI : Nat → Nat → Nat} {cA : ClassId} {a a' : Nat → Nat} {b L : Nat} {xs : Nat → Int32} {Q : State → Prop} (S : CallFix p m c code 4 s #[Value.ref b] lw_gt R_law) (hX : va_X b L xs s s.heap) (hbl : b < s.heap.size) (hL : L ≤ 1536) {i : Nat} (hi : i + 3 ≤ L) {T : Nat → Nat} {n : Nat} (htx : rf_tx T n) {u : XS} {v : MS} (hu : X_ok T n u) (hv : M_ok T n v) {H : Heap} {locs : List Loc} (I : L_I dC dI cA a a' s H locs u v) {ls : Array Slot} (hl : lv_has ls 4 [(3, .int (nI i)), (2, .ref (a' 0)), (1, .ref (a 0)), (0, .ref b)]) (kend : ∀ (T : Nat → Nat) (n : Nat) (u : XS) (v : MS) (H : Heap) (locs : List Loc), rf_tx T n → X_ok T n u → M_ok T n v → L_I dC dI cA a a' s H locs u v → W p l e room_1 s m #[Value.ref b] below meth c H locs 12 796 Q (F0 m 541 ls [])) : W p l e room_1 s m #[Value.ref b] below meth c H locs 12 796 Q (F0 m 285 ls []) := by
  have hx := S.1
  have hb := S.2.1
  obtain ⟨hT, hn⟩ := id htx
  obtain ⟨Af, Fi, La, St, rc, cu, rfl, hcu⟩ := hu
  obtain ⟨Cp, Fm, Lm, Lem, fo, rfl⟩ := hv
  refine lv_aload_n (pc := 285) hx hb d_L_law_285 rfl (lv_at hl 2 rfl) ?_
  refine L_callX (pc := 286) (rest := []) [] S (c_X_runs l dC dI cA a T Af Fi La St n rc cu hn hT hcu) k_L_X_runs e_X_runs rfl rfl ⟨Nat.le_of_ble_eq_true rfl, Nat.le_of_ble_eq_true rfl⟩ I rfl hl.1 rfl (Nat.le_of_ble_eq_true rfl) d_L_law_286 (fun r1 w1 H locs hw1 I => ?_)
  refine lv_aload_n (pc := 289) hx hb d_L_law_289 rfl (lv_at hl 1 rfl) ?_
  refine L_callM (pc := 290) (rest := [.int r1]) [] S (c_M_runs l dC dI cA a' T Cp Fm Lm Lem n fo hn hT) k_L_M_runs e_M_runs rfl rfl ⟨Nat.le_of_ble_eq_true rfl, Nat.le_of_ble_eq_true rfl⟩ I rfl hl.1 rfl (Nat.le_of_ble_eq_true rfl) d_L_law_290 (fun r2 w2 H locs hw2 I => ?_)
  obtain ⟨hA1, hX1⟩ := hw1
  obtain ⟨hA2, hM2⟩ := hw2
  have er := rf_uRuns hA1 hA2
  refine lv_icmp_eq (pc := 293) (tgt := 541) hx hb d_L_law_293 (by decide) (fun _ => ?_) (fun w => absurd er w)
  exact kend _ _ _ _ _ _ htx hX1 hM2 I
set_option maxHeartbeats 4000000 in
set_option maxRecDepth 20000 in
/-- the law: start -/
theorem law_c8 {p : Program} {l : Launch} {e : Env} {s : State} {m : MethodId} {below : List Frame} {meth : Method} {c : Code} {dC : Nat → ClassId} {dI : Nat → Nat → Nat} {cA : ClassId} {a a' : Nat → Nat} {b L : Nat} {xs : Nat → Int32} {Q : State → Prop} (S : CallFix p m c code 4 s #[Value.ref b] lw_gt R_law) (hX : va_X b L xs s s.heap) (hbl : b < s.heap.size) (hL : L ≤ 1536) {i : Nat} (hi : i + 3 ≤ L) {T : Nat → Nat} {n : Nat} (htx : rf_tx T n) {u : XS} {v : MS} (hu : X_ok T n u) (hv : M_ok T n v) {H : Heap} {locs : List Loc} (I : L_I dC dI cA a a' s H locs u v) {ls : Array Slot} (hl : lv_has ls 4 [(3, .int (nI i)), (2, .ref (a' 0)), (1, .ref (a 0)), (0, .ref b)]) (kend : ∀ (T : Nat → Nat) (n : Nat) (u : XS) (v : MS) (H : Heap) (locs : List Loc), rf_tx T n → X_ok T n u → M_ok T n v → L_I dC dI cA a a' s H locs u v → W p l e room_1 s m #[Value.ref b] below meth c H locs 12 796 Q (F0 m 541 ls [])) : W p l e room_1 s m #[Value.ref b] below meth c H locs 12 796 Q (F0 m 298 ls []) := by
  have hx := S.1
  have hb := S.2.1
  obtain ⟨hT, hn⟩ := id htx
  obtain ⟨Af, Fi, La, St, rc, cu, rfl, hcu⟩ := hu
  obtain ⟨Cp, Fm, Lm, Lem, fo, rfl⟩ := hv
  refine lv_aload_n (pc := 298) hx hb d_L_law_298 rfl (lv_at hl 2 rfl) ?_
  refine lv_aload_n (pc := 299) hx hb d_L_law_299 rfl (lv_at hl 3 rfl) ?_
  refine lv_iload_n (pc := 300) hx hb d_L_law_300 rfl (lv_at hl 0 rfl) ?_
  refine nr_iconst (pc := 301) hx hb 1 rfl d_L_law_301 ?_
  refine nr_iadd (pc := 302) hx hb d_L_law_302 ?_
  refine L_sld (pc := 303) S hX hbl I.2.2.1 (by omega) hL d_L_law_303 ?_
  refine L_callX (pc := 304) (rest := []) [.int (xs (i + 1))] S (c_X_start l dC dI cA a T Af Fi La St n rc cu (xs (i + 1)) hn hT hcu) k_L_X_start e_X_start rfl rfl ⟨Nat.le_of_ble_eq_true rfl, Nat.le_of_ble_eq_true rfl⟩ I rfl hl.1 rfl (Nat.le_of_ble_eq_true rfl) d_L_law_304 (fun r1 w1 H locs hw1 I => ?_)
  refine lv_aload_n (pc := 307) hx hb d_L_law_307 rfl (lv_at hl 1 rfl) ?_
  refine lv_aload_n (pc := 308) hx hb d_L_law_308 rfl (lv_at hl 3 rfl) ?_
  refine lv_iload_n (pc := 309) hx hb d_L_law_309 rfl (lv_at hl 0 rfl) ?_
  refine nr_iconst (pc := 310) hx hb 1 rfl d_L_law_310 ?_
  refine nr_iadd (pc := 311) hx hb d_L_law_311 ?_
  refine L_sld (pc := 312) S hX hbl I.2.2.1 (by omega) hL d_L_law_312 ?_
  refine L_callM (pc := 313) (rest := [.int r1]) [.int (xs (i + 1))] S (c_M_start l dC dI cA a' T Cp Fm Lm Lem n fo (xs (i + 1)) hn hT) k_L_M_start e_M_start rfl rfl ⟨Nat.le_of_ble_eq_true rfl, Nat.le_of_ble_eq_true rfl⟩ I rfl hl.1 rfl (Nat.le_of_ble_eq_true rfl) d_L_law_313 (fun r2 w2 H locs hw2 I => ?_)
  obtain ⟨hA1, hX1⟩ := hw1
  obtain ⟨hA2, hM2⟩ := hw2
  have er := rf_uSta hn hA1 hA2
  refine lv_icmp_eq (pc := 316) (tgt := 541) hx hb d_L_law_316 (by decide) (fun _ => ?_) (fun w => absurd er w)
  exact kend _ _ _ _ _ _ htx hX1 hM2 I
set_option maxHeartbeats 4000000 in
set_option maxRecDepth 20000 in
/-- the law: end -/
theorem law_c9 {p : Program} {l : Launch} {e : Env} {s : State} {m : MethodId} {below : List Frame} {meth : Method} {c : Code} {dC : Nat → ClassId} {dI : Nat → Nat → Nat} {cA : ClassId} {a a' : Nat → Nat} {b L : Nat} {xs : Nat → Int32} {Q : State → Prop} (S : CallFix p m c code 4 s #[Value.ref b] lw_gt R_law) (hX : va_X b L xs s s.heap) (hbl : b < s.heap.size) (hL : L ≤ 1536) {i : Nat} (hi : i + 3 ≤ L) {T : Nat → Nat} {n : Nat} (htx : rf_tx T n) {u : XS} {v : MS} (hu : X_ok T n u) (hv : M_ok T n v) {H : Heap} {locs : List Loc} (I : L_I dC dI cA a a' s H locs u v) {ls : Array Slot} (hl : lv_has ls 4 [(3, .int (nI i)), (2, .ref (a' 0)), (1, .ref (a 0)), (0, .ref b)]) (kend : ∀ (T : Nat → Nat) (n : Nat) (u : XS) (v : MS) (H : Heap) (locs : List Loc), rf_tx T n → X_ok T n u → M_ok T n v → L_I dC dI cA a a' s H locs u v → W p l e room_1 s m #[Value.ref b] below meth c H locs 12 796 Q (F0 m 541 ls [])) : W p l e room_1 s m #[Value.ref b] below meth c H locs 12 796 Q (F0 m 321 ls []) := by
  have hx := S.1
  have hb := S.2.1
  obtain ⟨hT, hn⟩ := id htx
  obtain ⟨Af, Fi, La, St, rc, cu, rfl, hcu⟩ := hu
  obtain ⟨Cp, Fm, Lm, Lem, fo, rfl⟩ := hv
  refine lv_aload_n (pc := 321) hx hb d_L_law_321 rfl (lv_at hl 2 rfl) ?_
  refine lv_aload_n (pc := 322) hx hb d_L_law_322 rfl (lv_at hl 3 rfl) ?_
  refine lv_iload_n (pc := 323) hx hb d_L_law_323 rfl (lv_at hl 0 rfl) ?_
  refine nr_iconst (pc := 324) hx hb 1 rfl d_L_law_324 ?_
  refine nr_iadd (pc := 325) hx hb d_L_law_325 ?_
  refine L_sld (pc := 326) S hX hbl I.2.2.1 (by omega) hL d_L_law_326 ?_
  refine L_callX (pc := 327) (rest := []) [.int (xs (i + 1))] S (c_X_end l dC dI cA a T Af Fi La St n rc cu (xs (i + 1)) hn hT hcu) k_L_X_end e_X_end rfl rfl ⟨Nat.le_of_ble_eq_true rfl, Nat.le_of_ble_eq_true rfl⟩ I rfl hl.1 rfl (Nat.le_of_ble_eq_true rfl) d_L_law_327 (fun r1 w1 H locs hw1 I => ?_)
  refine lv_aload_n (pc := 330) hx hb d_L_law_330 rfl (lv_at hl 1 rfl) ?_
  refine lv_aload_n (pc := 331) hx hb d_L_law_331 rfl (lv_at hl 3 rfl) ?_
  refine lv_iload_n (pc := 332) hx hb d_L_law_332 rfl (lv_at hl 0 rfl) ?_
  refine nr_iconst (pc := 333) hx hb 1 rfl d_L_law_333 ?_
  refine nr_iadd (pc := 334) hx hb d_L_law_334 ?_
  refine L_sld (pc := 335) S hX hbl I.2.2.1 (by omega) hL d_L_law_335 ?_
  refine L_callM (pc := 336) (rest := [.int r1]) [.int (xs (i + 1))] S (c_M_end l dC dI cA a' T Cp Fm Lm Lem n fo (xs (i + 1)) hn hT) k_L_M_end e_M_end rfl rfl ⟨Nat.le_of_ble_eq_true rfl, Nat.le_of_ble_eq_true rfl⟩ I rfl hl.1 rfl (Nat.le_of_ble_eq_true rfl) d_L_law_336 (fun r2 w2 H locs hw2 I => ?_)
  obtain ⟨hA1, hX1⟩ := hw1
  obtain ⟨hA2, hM2⟩ := hw2
  have er := rf_uEnd hn hA1 hA2
  refine lv_icmp_eq (pc := 339) (tgt := 541) hx hb d_L_law_339 (by decide) (fun _ => ?_) (fun w => absurd er w)
  exact kend _ _ _ _ _ _ htx hX1 hM2 I
set_option maxHeartbeats 4000000 in
set_option maxRecDepth 20000 in
/-- the law: period -/
theorem law_c10 {p : Program} {l : Launch} {e : Env} {s : State} {m : MethodId} {below : List Frame} {meth : Method} {c : Code} {dC : Nat → ClassId} {dI : Nat → Nat → Nat} {cA : ClassId} {a a' : Nat → Nat} {b L : Nat} {xs : Nat → Int32} {Q : State → Prop} (S : CallFix p m c code 4 s #[Value.ref b] lw_gt R_law) (hX : va_X b L xs s s.heap) (hbl : b < s.heap.size) (hL : L ≤ 1536) {i : Nat} (hi : i + 3 ≤ L) {T : Nat → Nat} {n : Nat} (htx : rf_tx T n) {u : XS} {v : MS} (hu : X_ok T n u) (hv : M_ok T n v) {H : Heap} {locs : List Loc} (I : L_I dC dI cA a a' s H locs u v) {ls : Array Slot} (hl : lv_has ls 4 [(3, .int (nI i)), (2, .ref (a' 0)), (1, .ref (a 0)), (0, .ref b)]) (kend : ∀ (T : Nat → Nat) (n : Nat) (u : XS) (v : MS) (H : Heap) (locs : List Loc), rf_tx T n → X_ok T n u → M_ok T n v → L_I dC dI cA a a' s H locs u v → W p l e room_1 s m #[Value.ref b] below meth c H locs 12 796 Q (F0 m 541 ls [])) : W p l e room_1 s m #[Value.ref b] below meth c H locs 12 796 Q (F0 m 344 ls []) := by
  have hx := S.1
  have hb := S.2.1
  obtain ⟨hT, hn⟩ := id htx
  obtain ⟨Af, Fi, La, St, rc, cu, rfl, hcu⟩ := hu
  obtain ⟨Cp, Fm, Lm, Lem, fo, rfl⟩ := hv
  refine lv_aload_n (pc := 344) hx hb d_L_law_344 rfl (lv_at hl 2 rfl) ?_
  refine lv_aload_n (pc := 345) hx hb d_L_law_345 rfl (lv_at hl 3 rfl) ?_
  refine lv_iload_n (pc := 346) hx hb d_L_law_346 rfl (lv_at hl 0 rfl) ?_
  refine nr_iconst (pc := 347) hx hb 1 rfl d_L_law_347 ?_
  refine nr_iadd (pc := 348) hx hb d_L_law_348 ?_
  refine L_sld (pc := 349) S hX hbl I.2.2.1 (by omega) hL d_L_law_349 ?_
  refine L_callX (pc := 350) (rest := []) [.int (xs (i + 1))] S (c_X_period l dC dI cA a T Af Fi La St n rc cu (xs (i + 1)) hn hT hcu) k_L_X_period e_X_period rfl rfl ⟨Nat.le_of_ble_eq_true rfl, Nat.le_of_ble_eq_true rfl⟩ I rfl hl.1 rfl (Nat.le_of_ble_eq_true rfl) d_L_law_350 (fun r1 w1 H locs hw1 I => ?_)
  refine lv_aload_n (pc := 353) hx hb d_L_law_353 rfl (lv_at hl 1 rfl) ?_
  refine lv_aload_n (pc := 354) hx hb d_L_law_354 rfl (lv_at hl 3 rfl) ?_
  refine lv_iload_n (pc := 355) hx hb d_L_law_355 rfl (lv_at hl 0 rfl) ?_
  refine nr_iconst (pc := 356) hx hb 1 rfl d_L_law_356 ?_
  refine nr_iadd (pc := 357) hx hb d_L_law_357 ?_
  refine L_sld (pc := 358) S hX hbl I.2.2.1 (by omega) hL d_L_law_358 ?_
  refine L_callM (pc := 359) (rest := [.int r1]) [.int (xs (i + 1))] S (c_M_period l dC dI cA a' T Cp Fm Lm Lem n fo (xs (i + 1)) hn hT) k_L_M_period e_M_period rfl rfl ⟨Nat.le_of_ble_eq_true rfl, Nat.le_of_ble_eq_true rfl⟩ I rfl hl.1 rfl (Nat.le_of_ble_eq_true rfl) d_L_law_359 (fun r2 w2 H locs hw2 I => ?_)
  obtain ⟨hA1, hX1⟩ := hw1
  obtain ⟨hA2, hM2⟩ := hw2
  have er := rf_uPer hn hA1 hA2
  refine lv_icmp_eq (pc := 362) (tgt := 541) hx hb d_L_law_362 (by decide) (fun _ => ?_) (fun w => absurd er w)
  exact kend _ _ _ _ _ _ htx hX1 hM2 I
set_option maxHeartbeats 4000000 in
set_option maxRecDepth 20000 in
/-- the law: runsAt -/
theorem law_c11 {p : Program} {l : Launch} {e : Env} {s : State} {m : MethodId} {below : List Frame} {meth : Method} {c : Code} {dC : Nat → ClassId} {dI : Nat → Nat → Nat} {cA : ClassId} {a a' : Nat → Nat} {b L : Nat} {xs : Nat → Int32} {Q : State → Prop} (S : CallFix p m c code 4 s #[Value.ref b] lw_gt R_law) (hX : va_X b L xs s s.heap) (hbl : b < s.heap.size) (hL : L ≤ 1536) {i : Nat} (hi : i + 3 ≤ L) {T : Nat → Nat} {n : Nat} (htx : rf_tx T n) {u : XS} {v : MS} (hu : X_ok T n u) (hv : M_ok T n v) {H : Heap} {locs : List Loc} (I : L_I dC dI cA a a' s H locs u v) {ls : Array Slot} (hl : lv_has ls 4 [(3, .int (nI i)), (2, .ref (a' 0)), (1, .ref (a 0)), (0, .ref b)]) (kend : ∀ (T : Nat → Nat) (n : Nat) (u : XS) (v : MS) (H : Heap) (locs : List Loc), rf_tx T n → X_ok T n u → M_ok T n v → L_I dC dI cA a a' s H locs u v → W p l e room_1 s m #[Value.ref b] below meth c H locs 12 796 Q (F0 m 541 ls [])) : W p l e room_1 s m #[Value.ref b] below meth c H locs 12 796 Q (F0 m 367 ls []) := by
  have hx := S.1
  have hb := S.2.1
  obtain ⟨hT, hn⟩ := id htx
  obtain ⟨Af, Fi, La, St, rc, cu, rfl, hcu⟩ := hu
  obtain ⟨Cp, Fm, Lm, Lem, fo, rfl⟩ := hv
  refine lv_aload_n (pc := 367) hx hb d_L_law_367 rfl (lv_at hl 2 rfl) ?_
  refine lv_aload_n (pc := 368) hx hb d_L_law_368 rfl (lv_at hl 3 rfl) ?_
  refine lv_iload_n (pc := 369) hx hb d_L_law_369 rfl (lv_at hl 0 rfl) ?_
  refine nr_iconst (pc := 370) hx hb 1 rfl d_L_law_370 ?_
  refine nr_iadd (pc := 371) hx hb d_L_law_371 ?_
  refine L_sld (pc := 372) S hX hbl I.2.2.1 (by omega) hL d_L_law_372 ?_
  refine L_callX (pc := 373) (rest := []) [.int (xs (i + 1))] S (c_X_runsAt l dC dI cA a T Af Fi La St n rc cu (xs (i + 1)) hn hT hcu) k_L_X_runsAt e_X_runsAt rfl rfl ⟨Nat.le_of_ble_eq_true rfl, Nat.le_of_ble_eq_true rfl⟩ I rfl hl.1 rfl (Nat.le_of_ble_eq_true rfl) d_L_law_373 (fun r1 w1 H locs hw1 I => ?_)
  refine lv_aload_n (pc := 376) hx hb d_L_law_376 rfl (lv_at hl 1 rfl) ?_
  refine lv_aload_n (pc := 377) hx hb d_L_law_377 rfl (lv_at hl 3 rfl) ?_
  refine lv_iload_n (pc := 378) hx hb d_L_law_378 rfl (lv_at hl 0 rfl) ?_
  refine nr_iconst (pc := 379) hx hb 1 rfl d_L_law_379 ?_
  refine nr_iadd (pc := 380) hx hb d_L_law_380 ?_
  refine L_sld (pc := 381) S hX hbl I.2.2.1 (by omega) hL d_L_law_381 ?_
  refine L_callM (pc := 382) (rest := [.int r1]) [.int (xs (i + 1))] S (c_M_runsAt l dC dI cA a' T Cp Fm Lm Lem n fo (xs (i + 1)) hn hT) k_L_M_runsAt e_M_runsAt rfl rfl ⟨Nat.le_of_ble_eq_true rfl, Nat.le_of_ble_eq_true rfl⟩ I rfl hl.1 rfl (Nat.le_of_ble_eq_true rfl) d_L_law_382 (fun r2 w2 H locs hw2 I => ?_)
  obtain ⟨hA1, hX1⟩ := hw1
  obtain ⟨hA2, hM2⟩ := hw2
  have er := rf_uRAt hn hA1 hA2
  refine lv_icmp_eq (pc := 385) (tgt := 541) hx hb d_L_law_385 (by decide) (fun _ => ?_) (fun w => absurd er w)
  exact kend _ _ _ _ _ _ htx hX1 hM2 I
set_option maxHeartbeats 4000000 in
set_option maxRecDepth 20000 in
/-- the law: squaresFrom -/
theorem law_c12 {p : Program} {l : Launch} {e : Env} {s : State} {m : MethodId} {below : List Frame} {meth : Method} {c : Code} {dC : Nat → ClassId} {dI : Nat → Nat → Nat} {cA : ClassId} {a a' : Nat → Nat} {b L : Nat} {xs : Nat → Int32} {Q : State → Prop} (S : CallFix p m c code 4 s #[Value.ref b] lw_gt R_law) (hX : va_X b L xs s s.heap) (hbl : b < s.heap.size) (hL : L ≤ 1536) {i : Nat} (hi : i + 3 ≤ L) {T : Nat → Nat} {n : Nat} (htx : rf_tx T n) {u : XS} {v : MS} (hu : X_ok T n u) (hv : M_ok T n v) {H : Heap} {locs : List Loc} (I : L_I dC dI cA a a' s H locs u v) {ls : Array Slot} (hl : lv_has ls 4 [(3, .int (nI i)), (2, .ref (a' 0)), (1, .ref (a 0)), (0, .ref b)]) (kend : ∀ (T : Nat → Nat) (n : Nat) (u : XS) (v : MS) (H : Heap) (locs : List Loc), rf_tx T n → X_ok T n u → M_ok T n v → L_I dC dI cA a a' s H locs u v → W p l e room_1 s m #[Value.ref b] below meth c H locs 12 796 Q (F0 m 541 ls [])) : W p l e room_1 s m #[Value.ref b] below meth c H locs 12 796 Q (F0 m 390 ls []) := by
  have hx := S.1
  have hb := S.2.1
  obtain ⟨hT, hn⟩ := id htx
  obtain ⟨Af, Fi, La, St, rc, cu, rfl, hcu⟩ := hu
  obtain ⟨Cp, Fm, Lm, Lem, fo, rfl⟩ := hv
  refine lv_aload_n (pc := 390) hx hb d_L_law_390 rfl (lv_at hl 2 rfl) ?_
  refine lv_aload_n (pc := 391) hx hb d_L_law_391 rfl (lv_at hl 3 rfl) ?_
  refine lv_iload_n (pc := 392) hx hb d_L_law_392 rfl (lv_at hl 0 rfl) ?_
  refine nr_iconst (pc := 393) hx hb 1 rfl d_L_law_393 ?_
  refine nr_iadd (pc := 394) hx hb d_L_law_394 ?_
  refine L_sld (pc := 395) S hX hbl I.2.2.1 (by omega) hL d_L_law_395 ?_
  refine L_callX (pc := 396) (rest := []) [.int (xs (i + 1))] S (c_X_squaresFrom l dC dI cA a T Af Fi La St n rc cu (xs (i + 1)) hn hT hcu) k_L_X_squaresFrom e_X_squaresFrom rfl rfl ⟨Nat.le_of_ble_eq_true rfl, Nat.le_of_ble_eq_true rfl⟩ I rfl hl.1 rfl (Nat.le_of_ble_eq_true rfl) d_L_law_396 (fun r1 w1 H locs hw1 I => ?_)
  refine lv_aload_n (pc := 399) hx hb d_L_law_399 rfl (lv_at hl 1 rfl) ?_
  refine lv_aload_n (pc := 400) hx hb d_L_law_400 rfl (lv_at hl 3 rfl) ?_
  refine lv_iload_n (pc := 401) hx hb d_L_law_401 rfl (lv_at hl 0 rfl) ?_
  refine nr_iconst (pc := 402) hx hb 1 rfl d_L_law_402 ?_
  refine nr_iadd (pc := 403) hx hb d_L_law_403 ?_
  refine L_sld (pc := 404) S hX hbl I.2.2.1 (by omega) hL d_L_law_404 ?_
  refine L_callM (pc := 405) (rest := [.int r1]) [.int (xs (i + 1))] S (c_M_squaresFrom l dC dI cA a' T Cp Fm Lm Lem n fo (xs (i + 1)) hn hT) k_L_M_squaresFrom e_M_squaresFrom rfl rfl ⟨Nat.le_of_ble_eq_true rfl, Nat.le_of_ble_eq_true rfl⟩ I rfl hl.1 rfl (Nat.le_of_ble_eq_true rfl) d_L_law_405 (fun r2 w2 H locs hw2 I => ?_)
  obtain ⟨hA1, hX1⟩ := hw1
  obtain ⟨hA2, hM2⟩ := hw2
  have er := rf_uSqF hn hA1 hA2
  refine lv_icmp_eq (pc := 408) (tgt := 541) hx hb d_L_law_408 (by decide) (fun _ => ?_) (fun w => absurd er w)
  exact kend _ _ _ _ _ _ htx hX1 hM2 I
set_option maxHeartbeats 4000000 in
set_option maxRecDepth 20000 in
/-- the law: squares -/
theorem law_c13 {p : Program} {l : Launch} {e : Env} {s : State} {m : MethodId} {below : List Frame} {meth : Method} {c : Code} {dC : Nat → ClassId} {dI : Nat → Nat → Nat} {cA : ClassId} {a a' : Nat → Nat} {b L : Nat} {xs : Nat → Int32} {Q : State → Prop} (S : CallFix p m c code 4 s #[Value.ref b] lw_gt R_law) (hX : va_X b L xs s s.heap) (hbl : b < s.heap.size) (hL : L ≤ 1536) {i : Nat} (hi : i + 3 ≤ L) {T : Nat → Nat} {n : Nat} (htx : rf_tx T n) {u : XS} {v : MS} (hu : X_ok T n u) (hv : M_ok T n v) {H : Heap} {locs : List Loc} (I : L_I dC dI cA a a' s H locs u v) {ls : Array Slot} (hl : lv_has ls 4 [(3, .int (nI i)), (2, .ref (a' 0)), (1, .ref (a 0)), (0, .ref b)]) (kend : ∀ (T : Nat → Nat) (n : Nat) (u : XS) (v : MS) (H : Heap) (locs : List Loc), rf_tx T n → X_ok T n u → M_ok T n v → L_I dC dI cA a a' s H locs u v → W p l e room_1 s m #[Value.ref b] below meth c H locs 12 796 Q (F0 m 541 ls [])) : W p l e room_1 s m #[Value.ref b] below meth c H locs 12 796 Q (F0 m 413 ls []) := by
  have hx := S.1
  have hb := S.2.1
  obtain ⟨hT, hn⟩ := id htx
  obtain ⟨Af, Fi, La, St, rc, cu, rfl, hcu⟩ := hu
  obtain ⟨Cp, Fm, Lm, Lem, fo, rfl⟩ := hv
  refine lv_aload_n (pc := 413) hx hb d_L_law_413 rfl (lv_at hl 2 rfl) ?_
  refine L_callX (pc := 414) (rest := []) [] S (c_X_squares l dC dI cA a T Af Fi La St n rc cu hn hT hcu) k_L_X_squares e_X_squares rfl rfl ⟨Nat.le_of_ble_eq_true rfl, Nat.le_of_ble_eq_true rfl⟩ I rfl hl.1 rfl (Nat.le_of_ble_eq_true rfl) d_L_law_414 (fun r1 w1 H locs hw1 I => ?_)
  refine lv_aload_n (pc := 417) hx hb d_L_law_417 rfl (lv_at hl 1 rfl) ?_
  refine L_callM (pc := 418) (rest := [.int r1]) [] S (c_M_squares l dC dI cA a' T Cp Fm Lm Lem n fo hn hT) k_L_M_squares e_M_squares rfl rfl ⟨Nat.le_of_ble_eq_true rfl, Nat.le_of_ble_eq_true rfl⟩ I rfl hl.1 rfl (Nat.le_of_ble_eq_true rfl) d_L_law_418 (fun r2 w2 H locs hw2 I => ?_)
  obtain ⟨hA1, hX1⟩ := hw1
  obtain ⟨hA2, hM2⟩ := hw2
  have er := rf_uSq hA1 hA2
  refine lv_icmp_eq (pc := 421) (tgt := 541) hx hb d_L_law_421 (by decide) (fun _ => ?_) (fun w => absurd er w)
  exact kend _ _ _ _ _ _ htx hX1 hM2 I
set_option maxHeartbeats 4000000 in
set_option maxRecDepth 20000 in
/-- the law: periodOf -/
theorem law_c14 {p : Program} {l : Launch} {e : Env} {s : State} {m : MethodId} {below : List Frame} {meth : Method} {c : Code} {dC : Nat → ClassId} {dI : Nat → Nat → Nat} {cA : ClassId} {a a' : Nat → Nat} {b L : Nat} {xs : Nat → Int32} {Q : State → Prop} (S : CallFix p m c code 4 s #[Value.ref b] lw_gt R_law) (hX : va_X b L xs s s.heap) (hbl : b < s.heap.size) (hL : L ≤ 1536) {i : Nat} (hi : i + 3 ≤ L) {T : Nat → Nat} {n : Nat} (htx : rf_tx T n) {u : XS} {v : MS} (hu : X_ok T n u) (hv : M_ok T n v) {H : Heap} {locs : List Loc} (I : L_I dC dI cA a a' s H locs u v) {ls : Array Slot} (hl : lv_has ls 4 [(3, .int (nI i)), (2, .ref (a' 0)), (1, .ref (a 0)), (0, .ref b)]) (kend : ∀ (T : Nat → Nat) (n : Nat) (u : XS) (v : MS) (H : Heap) (locs : List Loc), rf_tx T n → X_ok T n u → M_ok T n v → L_I dC dI cA a a' s H locs u v → W p l e room_1 s m #[Value.ref b] below meth c H locs 12 796 Q (F0 m 541 ls [])) : W p l e room_1 s m #[Value.ref b] below meth c H locs 12 796 Q (F0 m 426 ls []) := by
  have hx := S.1
  have hb := S.2.1
  obtain ⟨hT, hn⟩ := id htx
  obtain ⟨Af, Fi, La, St, rc, cu, rfl, hcu⟩ := hu
  obtain ⟨Cp, Fm, Lm, Lem, fo, rfl⟩ := hv
  refine lv_aload_n (pc := 426) hx hb d_L_law_426 rfl (lv_at hl 2 rfl) ?_
  refine lv_aload_n (pc := 427) hx hb d_L_law_427 rfl (lv_at hl 3 rfl) ?_
  refine lv_iload_n (pc := 428) hx hb d_L_law_428 rfl (lv_at hl 0 rfl) ?_
  refine nr_iconst (pc := 429) hx hb 1 rfl d_L_law_429 ?_
  refine nr_iadd (pc := 430) hx hb d_L_law_430 ?_
  refine L_sld (pc := 431) S hX hbl I.2.2.1 (by omega) hL d_L_law_431 ?_
  refine lv_aload_n (pc := 432) hx hb d_L_law_432 rfl (lv_at hl 3 rfl) ?_
  refine lv_iload_n (pc := 433) hx hb d_L_law_433 rfl (lv_at hl 0 rfl) ?_
  refine nr_iconst (pc := 434) hx hb 2 rfl d_L_law_434 ?_
  refine nr_iadd (pc := 435) hx hb d_L_law_435 ?_
  refine L_sld (pc := 436) S hX hbl I.2.2.1 (by omega) hL d_L_law_436 ?_
  refine L_callX (pc := 437) (rest := []) [.int (xs (i + 1)), .int (xs (i + 2))] S (c_X_periodOf l dC dI cA a T Af Fi La St n rc cu (xs (i + 1)) (xs (i + 2)) hn hT hcu) k_L_X_periodOf e_X_periodOf rfl rfl ⟨Nat.le_of_ble_eq_true rfl, Nat.le_of_ble_eq_true rfl⟩ I rfl hl.1 rfl (Nat.le_of_ble_eq_true rfl) d_L_law_437 (fun r1 w1 H locs hw1 I => ?_)
  refine lv_aload_n (pc := 440) hx hb d_L_law_440 rfl (lv_at hl 1 rfl) ?_
  refine lv_aload_n (pc := 441) hx hb d_L_law_441 rfl (lv_at hl 3 rfl) ?_
  refine lv_iload_n (pc := 442) hx hb d_L_law_442 rfl (lv_at hl 0 rfl) ?_
  refine nr_iconst (pc := 443) hx hb 1 rfl d_L_law_443 ?_
  refine nr_iadd (pc := 444) hx hb d_L_law_444 ?_
  refine L_sld (pc := 445) S hX hbl I.2.2.1 (by omega) hL d_L_law_445 ?_
  refine lv_aload_n (pc := 446) hx hb d_L_law_446 rfl (lv_at hl 3 rfl) ?_
  refine lv_iload_n (pc := 447) hx hb d_L_law_447 rfl (lv_at hl 0 rfl) ?_
  refine nr_iconst (pc := 448) hx hb 2 rfl d_L_law_448 ?_
  refine nr_iadd (pc := 449) hx hb d_L_law_449 ?_
  refine L_sld (pc := 450) S hX hbl I.2.2.1 (by omega) hL d_L_law_450 ?_
  refine L_callM (pc := 451) (rest := [.int r1]) [.int (xs (i + 1)), .int (xs (i + 2))] S (c_M_periodOf l dC dI cA a' T Cp Fm Lm Lem n fo (xs (i + 1)) (xs (i + 2)) hn hT) k_L_M_periodOf e_M_periodOf rfl rfl ⟨Nat.le_of_ble_eq_true rfl, Nat.le_of_ble_eq_true rfl⟩ I rfl hl.1 rfl (Nat.le_of_ble_eq_true rfl) d_L_law_451 (fun r2 w2 H locs hw2 I => ?_)
  obtain ⟨hA1, hX1⟩ := hw1
  obtain ⟨hA2, hM2⟩ := hw2
  have er := rf_uPOf hn hA1 hA2
  refine lv_icmp_eq (pc := 454) (tgt := 541) hx hb d_L_law_454 (by decide) (fun _ => ?_) (fun w => absurd er w)
  exact kend _ _ _ _ _ _ htx hX1 hM2 I
set_option maxHeartbeats 4000000 in
set_option maxRecDepth 20000 in
/-- the law: longest -/
theorem law_c15 {p : Program} {l : Launch} {e : Env} {s : State} {m : MethodId} {below : List Frame} {meth : Method} {c : Code} {dC : Nat → ClassId} {dI : Nat → Nat → Nat} {cA : ClassId} {a a' : Nat → Nat} {b L : Nat} {xs : Nat → Int32} {Q : State → Prop} (S : CallFix p m c code 4 s #[Value.ref b] lw_gt R_law) (hX : va_X b L xs s s.heap) (hbl : b < s.heap.size) (hL : L ≤ 1536) {i : Nat} (hi : i + 3 ≤ L) {T : Nat → Nat} {n : Nat} (htx : rf_tx T n) {u : XS} {v : MS} (hu : X_ok T n u) (hv : M_ok T n v) {H : Heap} {locs : List Loc} (I : L_I dC dI cA a a' s H locs u v) {ls : Array Slot} (hl : lv_has ls 4 [(3, .int (nI i)), (2, .ref (a' 0)), (1, .ref (a 0)), (0, .ref b)]) (kend : ∀ (T : Nat → Nat) (n : Nat) (u : XS) (v : MS) (H : Heap) (locs : List Loc), rf_tx T n → X_ok T n u → M_ok T n v → L_I dC dI cA a a' s H locs u v → W p l e room_1 s m #[Value.ref b] below meth c H locs 12 796 Q (F0 m 541 ls [])) : W p l e room_1 s m #[Value.ref b] below meth c H locs 12 796 Q (F0 m 459 ls []) := by
  have hx := S.1
  have hb := S.2.1
  obtain ⟨hT, hn⟩ := id htx
  obtain ⟨Af, Fi, La, St, rc, cu, rfl, hcu⟩ := hu
  obtain ⟨Cp, Fm, Lm, Lem, fo, rfl⟩ := hv
  refine lv_aload_n (pc := 459) hx hb d_L_law_459 rfl (lv_at hl 2 rfl) ?_
  refine L_callX (pc := 460) (rest := []) [] S (c_X_longest l dC dI cA a T Af Fi La St n rc cu hn hT hcu) k_L_X_longest e_X_longest rfl rfl ⟨Nat.le_of_ble_eq_true rfl, Nat.le_of_ble_eq_true rfl⟩ I rfl hl.1 rfl (Nat.le_of_ble_eq_true rfl) d_L_law_460 (fun r1 w1 H locs hw1 I => ?_)
  refine lv_aload_n (pc := 463) hx hb d_L_law_463 rfl (lv_at hl 1 rfl) ?_
  refine L_callM (pc := 464) (rest := [.int r1]) [] S (c_M_longest l dC dI cA a' T Cp Fm Lm Lem n fo hn hT) k_L_M_longest e_M_longest rfl rfl ⟨Nat.le_of_ble_eq_true rfl, Nat.le_of_ble_eq_true rfl⟩ I rfl hl.1 rfl (Nat.le_of_ble_eq_true rfl) d_L_law_464 (fun r2 w2 H locs hw2 I => ?_)
  obtain ⟨hA1, hX1⟩ := hw1
  obtain ⟨hA2, hM2⟩ := hw2
  have er := rf_uLong hA1 hA2
  refine lv_icmp_eq (pc := 467) (tgt := 541) hx hb d_L_law_467 (by decide) (fun _ => ?_) (fun w => absurd er w)
  exact kend _ _ _ _ _ _ htx hX1 hM2 I
set_option maxHeartbeats 4000000 in
set_option maxRecDepth 20000 in
/-- the law: power -/
theorem law_c16 {p : Program} {l : Launch} {e : Env} {s : State} {m : MethodId} {below : List Frame} {meth : Method} {c : Code} {dC : Nat → ClassId} {dI : Nat → Nat → Nat} {cA : ClassId} {a a' : Nat → Nat} {b L : Nat} {xs : Nat → Int32} {Q : State → Prop} (S : CallFix p m c code 4 s #[Value.ref b] lw_gt R_law) (hX : va_X b L xs s s.heap) (hbl : b < s.heap.size) (hL : L ≤ 1536) {i : Nat} (hi : i + 3 ≤ L) {T : Nat → Nat} {n : Nat} (htx : rf_tx T n) {u : XS} {v : MS} (hu : X_ok T n u) (hv : M_ok T n v) {H : Heap} {locs : List Loc} (I : L_I dC dI cA a a' s H locs u v) {ls : Array Slot} (hl : lv_has ls 4 [(3, .int (nI i)), (2, .ref (a' 0)), (1, .ref (a 0)), (0, .ref b)]) (kend : ∀ (T : Nat → Nat) (n : Nat) (u : XS) (v : MS) (H : Heap) (locs : List Loc), rf_tx T n → X_ok T n u → M_ok T n v → L_I dC dI cA a a' s H locs u v → W p l e room_1 s m #[Value.ref b] below meth c H locs 12 796 Q (F0 m 541 ls [])) : W p l e room_1 s m #[Value.ref b] below meth c H locs 12 796 Q (F0 m 472 ls []) := by
  have hx := S.1
  have hb := S.2.1
  obtain ⟨hT, hn⟩ := id htx
  obtain ⟨Af, Fi, La, St, rc, cu, rfl, hcu⟩ := hu
  obtain ⟨Cp, Fm, Lm, Lem, fo, rfl⟩ := hv
  refine lv_aload_n (pc := 472) hx hb d_L_law_472 rfl (lv_at hl 2 rfl) ?_
  refine L_callX (pc := 473) (rest := []) [] S (c_X_power l dC dI cA a T Af Fi La St n rc cu hn hT hcu) k_L_X_power e_X_power rfl rfl ⟨Nat.le_of_ble_eq_true rfl, Nat.le_of_ble_eq_true rfl⟩ I rfl hl.1 rfl (Nat.le_of_ble_eq_true rfl) d_L_law_473 (fun r1 w1 H locs hw1 I => ?_)
  refine lv_aload_n (pc := 476) hx hb d_L_law_476 rfl (lv_at hl 1 rfl) ?_
  refine L_callM (pc := 477) (rest := [.int r1]) [] S (c_M_power l dC dI cA a' T Cp Fm Lm Lem n fo hn hT) k_L_M_power e_M_power rfl rfl ⟨Nat.le_of_ble_eq_true rfl, Nat.le_of_ble_eq_true rfl⟩ I rfl hl.1 rfl (Nat.le_of_ble_eq_true rfl) d_L_law_477 (fun r2 w2 H locs hw2 I => ?_)
  obtain ⟨hA1, hX1⟩ := hw1
  obtain ⟨hA2, hM2⟩ := hw2
  have er := rf_uPow hA1 hA2
  refine lv_icmp_eq (pc := 480) (tgt := 541) hx hb d_L_law_480 (by decide) (fun _ => ?_) (fun w => absurd er w)
  exact kend _ _ _ _ _ _ htx hX1 hM2 I
set_option maxHeartbeats 4000000 in
set_option maxRecDepth 20000 in
/-- the law: common -/
theorem law_c17 {p : Program} {l : Launch} {e : Env} {s : State} {m : MethodId} {below : List Frame} {meth : Method} {c : Code} {dC : Nat → ClassId} {dI : Nat → Nat → Nat} {cA : ClassId} {a a' : Nat → Nat} {b L : Nat} {xs : Nat → Int32} {Q : State → Prop} (S : CallFix p m c code 4 s #[Value.ref b] lw_gt R_law) (hX : va_X b L xs s s.heap) (hbl : b < s.heap.size) (hL : L ≤ 1536) {i : Nat} (hi : i + 3 ≤ L) {T : Nat → Nat} {n : Nat} (htx : rf_tx T n) {u : XS} {v : MS} (hu : X_ok T n u) (hv : M_ok T n v) {H : Heap} {locs : List Loc} (I : L_I dC dI cA a a' s H locs u v) {ls : Array Slot} (hl : lv_has ls 4 [(3, .int (nI i)), (2, .ref (a' 0)), (1, .ref (a 0)), (0, .ref b)]) (kend : ∀ (T : Nat → Nat) (n : Nat) (u : XS) (v : MS) (H : Heap) (locs : List Loc), rf_tx T n → X_ok T n u → M_ok T n v → L_I dC dI cA a a' s H locs u v → W p l e room_1 s m #[Value.ref b] below meth c H locs 12 796 Q (F0 m 541 ls [])) : W p l e room_1 s m #[Value.ref b] below meth c H locs 12 796 Q (F0 m 485 ls []) := by
  have hx := S.1
  have hb := S.2.1
  obtain ⟨hT, hn⟩ := id htx
  obtain ⟨Af, Fi, La, St, rc, cu, rfl, hcu⟩ := hu
  obtain ⟨Cp, Fm, Lm, Lem, fo, rfl⟩ := hv
  refine lv_aload_n (pc := 485) hx hb d_L_law_485 rfl (lv_at hl 2 rfl) ?_
  refine lv_aload_n (pc := 486) hx hb d_L_law_486 rfl (lv_at hl 3 rfl) ?_
  refine lv_iload_n (pc := 487) hx hb d_L_law_487 rfl (lv_at hl 0 rfl) ?_
  refine nr_iconst (pc := 488) hx hb 1 rfl d_L_law_488 ?_
  refine nr_iadd (pc := 489) hx hb d_L_law_489 ?_
  refine L_sld (pc := 490) S hX hbl I.2.2.1 (by omega) hL d_L_law_490 ?_
  refine lv_aload_n (pc := 491) hx hb d_L_law_491 rfl (lv_at hl 3 rfl) ?_
  refine lv_iload_n (pc := 492) hx hb d_L_law_492 rfl (lv_at hl 0 rfl) ?_
  refine nr_iconst (pc := 493) hx hb 2 rfl d_L_law_493 ?_
  refine nr_iadd (pc := 494) hx hb d_L_law_494 ?_
  refine L_sld (pc := 495) S hX hbl I.2.2.1 (by omega) hL d_L_law_495 ?_
  refine L_callX (pc := 496) (rest := []) [.int (xs (i + 1)), .int (xs (i + 2))] S (c_X_common l dC dI cA a T Af Fi La St n rc cu (xs (i + 1)) (xs (i + 2)) hn hT hcu) k_L_X_common e_X_common rfl rfl ⟨Nat.le_of_ble_eq_true rfl, Nat.le_of_ble_eq_true rfl⟩ I rfl hl.1 rfl (Nat.le_of_ble_eq_true rfl) d_L_law_496 (fun r1 w1 H locs hw1 I => ?_)
  refine lv_aload_n (pc := 499) hx hb d_L_law_499 rfl (lv_at hl 1 rfl) ?_
  refine lv_aload_n (pc := 500) hx hb d_L_law_500 rfl (lv_at hl 3 rfl) ?_
  refine lv_iload_n (pc := 501) hx hb d_L_law_501 rfl (lv_at hl 0 rfl) ?_
  refine nr_iconst (pc := 502) hx hb 1 rfl d_L_law_502 ?_
  refine nr_iadd (pc := 503) hx hb d_L_law_503 ?_
  refine L_sld (pc := 504) S hX hbl I.2.2.1 (by omega) hL d_L_law_504 ?_
  refine lv_aload_n (pc := 505) hx hb d_L_law_505 rfl (lv_at hl 3 rfl) ?_
  refine lv_iload_n (pc := 506) hx hb d_L_law_506 rfl (lv_at hl 0 rfl) ?_
  refine nr_iconst (pc := 507) hx hb 2 rfl d_L_law_507 ?_
  refine nr_iadd (pc := 508) hx hb d_L_law_508 ?_
  refine L_sld (pc := 509) S hX hbl I.2.2.1 (by omega) hL d_L_law_509 ?_
  refine L_callM (pc := 510) (rest := [.int r1]) [.int (xs (i + 1)), .int (xs (i + 2))] S (c_M_common l dC dI cA a' T Cp Fm Lm Lem n fo (xs (i + 1)) (xs (i + 2)) hn hT) k_L_M_common e_M_common rfl rfl ⟨Nat.le_of_ble_eq_true rfl, Nat.le_of_ble_eq_true rfl⟩ I rfl hl.1 rfl (Nat.le_of_ble_eq_true rfl) d_L_law_510 (fun r2 w2 H locs hw2 I => ?_)
  obtain ⟨hA1, hX1⟩ := hw1
  obtain ⟨hA2, hM2⟩ := hw2
  have er := rf_uCom hn hA1 hA2
  refine lv_icmp_eq (pc := 513) (tgt := 541) hx hb d_L_law_513 (by decide) (fun _ => ?_) (fun w => absurd er w)
  exact kend _ _ _ _ _ _ htx hX1 hM2 I
set_option maxHeartbeats 4000000 in
set_option maxRecDepth 20000 in
/-- the law: nextSmaller -/
theorem law_c18 {p : Program} {l : Launch} {e : Env} {s : State} {m : MethodId} {below : List Frame} {meth : Method} {c : Code} {dC : Nat → ClassId} {dI : Nat → Nat → Nat} {cA : ClassId} {a a' : Nat → Nat} {b L : Nat} {xs : Nat → Int32} {Q : State → Prop} (S : CallFix p m c code 4 s #[Value.ref b] lw_gt R_law) (hX : va_X b L xs s s.heap) (hbl : b < s.heap.size) (hL : L ≤ 1536) {i : Nat} (hi : i + 3 ≤ L) {T : Nat → Nat} {n : Nat} (htx : rf_tx T n) {u : XS} {v : MS} (hu : X_ok T n u) (hv : M_ok T n v) {H : Heap} {locs : List Loc} (I : L_I dC dI cA a a' s H locs u v) {ls : Array Slot} (hl : lv_has ls 4 [(3, .int (nI i)), (2, .ref (a' 0)), (1, .ref (a 0)), (0, .ref b)]) (kend : ∀ (T : Nat → Nat) (n : Nat) (u : XS) (v : MS) (H : Heap) (locs : List Loc), rf_tx T n → X_ok T n u → M_ok T n v → L_I dC dI cA a a' s H locs u v → W p l e room_1 s m #[Value.ref b] below meth c H locs 12 796 Q (F0 m 541 ls [])) : W p l e room_1 s m #[Value.ref b] below meth c H locs 12 796 Q (F0 m 518 ls []) := by
  have hx := S.1
  have hb := S.2.1
  obtain ⟨hT, hn⟩ := id htx
  obtain ⟨Af, Fi, La, St, rc, cu, rfl, hcu⟩ := hu
  obtain ⟨Cp, Fm, Lm, Lem, fo, rfl⟩ := hv
  refine lv_aload_n (pc := 518) hx hb d_L_law_518 rfl (lv_at hl 2 rfl) ?_
  refine lv_aload_n (pc := 519) hx hb d_L_law_519 rfl (lv_at hl 3 rfl) ?_
  refine lv_iload_n (pc := 520) hx hb d_L_law_520 rfl (lv_at hl 0 rfl) ?_
  refine nr_iconst (pc := 521) hx hb 1 rfl d_L_law_521 ?_
  refine nr_iadd (pc := 522) hx hb d_L_law_522 ?_
  refine L_sld (pc := 523) S hX hbl I.2.2.1 (by omega) hL d_L_law_523 ?_
  refine L_callX (pc := 524) (rest := []) [.int (xs (i + 1))] S (c_X_nextSmaller l dC dI cA a T Af Fi La St n rc cu (xs (i + 1)) hn hT hcu) k_L_X_nextSmaller e_X_nextSmaller rfl rfl ⟨Nat.le_of_ble_eq_true rfl, Nat.le_of_ble_eq_true rfl⟩ I rfl hl.1 rfl (Nat.le_of_ble_eq_true rfl) d_L_law_524 (fun r1 w1 H locs hw1 I => ?_)
  refine lv_aload_n (pc := 527) hx hb d_L_law_527 rfl (lv_at hl 1 rfl) ?_
  refine lv_aload_n (pc := 528) hx hb d_L_law_528 rfl (lv_at hl 3 rfl) ?_
  refine lv_iload_n (pc := 529) hx hb d_L_law_529 rfl (lv_at hl 0 rfl) ?_
  refine nr_iconst (pc := 530) hx hb 1 rfl d_L_law_530 ?_
  refine nr_iadd (pc := 531) hx hb d_L_law_531 ?_
  refine L_sld (pc := 532) S hX hbl I.2.2.1 (by omega) hL d_L_law_532 ?_
  refine L_callM (pc := 533) (rest := [.int r1]) [.int (xs (i + 1))] S (c_M_nextSmaller l dC dI cA a' T Cp Fm Lm Lem n fo (xs (i + 1)) hn hT) k_L_M_nextSmaller e_M_nextSmaller rfl rfl ⟨Nat.le_of_ble_eq_true rfl, Nat.le_of_ble_eq_true rfl⟩ I rfl hl.1 rfl (Nat.le_of_ble_eq_true rfl) d_L_law_533 (fun r2 w2 H locs hw2 I => ?_)
  obtain ⟨hA1, hX1⟩ := hw1
  obtain ⟨hA2, hM2⟩ := hw2
  have er := rf_uNS hn hA1 hA2
  refine lv_icmp_eq (pc := 536) (tgt := 541) hx hb d_L_law_536 (by decide) (fun _ => ?_) (fun w => absurd er w)
  exact kend _ _ _ _ _ _ htx hX1 hM2 I
end
section
set_option maxHeartbeats 4000000 in
set_option maxRecDepth 20000 in
/-- THE LAW'S LOOP -/
theorem law_loop {p : Program} {l : Launch} {e : Env} {s : State} {m : MethodId} {below : List Frame} {meth : Method} {c : Code} {dC : Nat → ClassId} {dI : Nat → Nat → Nat} {cA : ClassId} {a a' : Nat → Nat} {b L : Nat} {xs : Nat → Int32} (hL : L ≤ 1536) (C0 : lw_At p s m meth c b L xs) (S : CallFix p m c code 4 s #[Value.ref b] lw_gt R_law) :
    ∀ (fu i : Nat), i ≤ L → L < i + fu → ∀ (T : Nat → Nat) (n : Nat) (u : XS) (v : MS) (H : Heap) (locs : List Loc), rf_tx T n → X_ok T n u → M_ok T n v → L_I dC dI cA a a' s H locs u v → ∀ ls : Array Slot, lv_has ls 4 [(3, .int (nI i)), (2, .ref (a' 0)), (1, .ref (a 0)), (0, .ref b)] → W p l e room_1 s m #[Value.ref b] below meth c H locs 12 796 (lw_Z below #[Value.ref b] s) (F0 m 18 ls []) := by
  obtain ⟨hx, hb, hr, hml, hown, hts, hX, hbl, hlocks, hgv⟩ := C0
  intro fu
  induction fu with
  | zero =>
    intro i h1 h2
    exact absurd h2 (by omega)
  | succ fu ih =>
    intro i hi hfu T n u v H locs htx hu hv I ls hl
    refine lv_iload_n (pc := 18) hx hb d_L_law_18 rfl (lv_at hl 0 rfl) ?_
    refine lv_aload_n (pc := 19) hx hb d_L_law_19 rfl (lv_at hl 3 rfl) ?_
    refine va_slen (pc := 20) hx hb hX hbl (Nat.not_le.mpr hbl) I.2.2.1 d_L_law_20 ?_
    refine nr_iconst (pc := 21) hx hb 3 rfl d_L_law_21 ?_
    refine lv_isub (pc := 22) hx hb d_L_law_22 ?_
    refine rj_icmp_gt (pc := 23) (tgt := 547) hx hb (by omega) d_L_law_23 (by decide) (fun cx => ?_) (fun cx => ?_)
    · refine lv_iconst (pc := 547) (v := 1) hx hb d_L_law_547 (by decide) ?_
      refine va_forget (fun q hq => I.2.2.1.2.2 q hq) ?_
      exact lw_ret (pc := 548) hx hb hr hlocks d_L_law_548
    · have hi3 : i + 3 ≤ L := by
        have q : (nI L - nI 3).toInt = (L : Int) - (3 : Nat) := pk_sub_toInt (by omega) (by omega)
        rw [show Int32.ofNat L - nI 3 = nI L - nI 3 from rfl, q] at cx
        omega
      have kend : ∀ (T : Nat → Nat) (n : Nat) (u : XS) (v : MS) (H : Heap) (locs : List Loc), rf_tx T n → X_ok T n u → M_ok T n v → L_I dC dI cA a a' s H locs u v → W p l e room_1 s m #[Value.ref b] below meth c H locs 12 796 (lw_Z below #[Value.ref b] s) (F0 m 541 ls []) := by
        intro T n u v H locs htx hu hv I
        refine nr_iinc (pc := 541) (lv' := [(3, .int (nI (i + 3))), (2, .ref (a' 0)), (1, .ref (a 0)), (0, .ref b)]) hx hb d_L_law_541 hl (d := 3) rfl (k := 0) rfl (by decide) rfl (fun ls hl => ?_)
        refine lv_goto (pc := 544) (tgt := 18) hx hb d_L_law_544 (by decide) ?_
        exact ih (i + 3) hi3 (by omega) T n u v H locs htx hu hv I ls hl
      refine lv_aload_n (pc := 26) hx hb d_L_law_26 rfl (lv_at hl 3 rfl) ?_
      refine lv_iload_n (pc := 27) hx hb d_L_law_27 rfl (lv_at hl 0 rfl) ?_
      refine L_sld (pc := 28) S hX hbl I.2.2.1 (by omega) hL d_L_law_28 ?_
      refine nr_bipush (pc := 29) hx hb 31 (by decide) d_L_law_29 ?_
      refine lv_iand (pc := 31) hx hb d_L_law_31 ?_
      obtain ⟨j, hj, ej⟩ := pk_andE (xs i) (m := nI 31) 5 (by decide)
      rw [ej]
      rcases (show j = 0 ∨ j = 1 ∨ j = 2 ∨ j = 3 ∨ j = 4 ∨ j = 5 ∨ j = 6 ∨ j = 7 ∨ j = 8 ∨ j = 9 ∨ j = 10 ∨ j = 11 ∨ j = 12 ∨ j = 13 ∨ j = 14 ∨ j = 15 ∨ j = 16 ∨ j = 17 ∨ j = 18 ∨ 18 < j by omega) with rfl | rfl | rfl | rfl | rfl | rfl | rfl | rfl | rfl | rfl | rfl | rfl | rfl | rfl | rfl | rfl | rfl | rfl | rfl | hj2
      · refine lv_tableIn (pc := 32) (off := 92) (tgt := 124) hx hb d_L_law_32 (by decide) (by decide) (by decide) (by decide) ?_
        exact law_c0 S hX hbl hL hi3 htx hu hv I hl kend
      · refine lv_tableIn (pc := 32) (off := 115) (tgt := 147) hx hb d_L_law_32 (by decide) (by decide) (by decide) (by decide) ?_
        exact law_c1 S hX hbl hL hi3 htx hu hv I hl kend
      · refine lv_tableIn (pc := 32) (off := 138) (tgt := 170) hx hb d_L_law_32 (by decide) (by decide) (by decide) (by decide) ?_
        exact law_c2 S hX hbl hL hi3 htx hu hv I hl kend
      · refine lv_tableIn (pc := 32) (off := 171) (tgt := 203) hx hb d_L_law_32 (by decide) (by decide) (by decide) (by decide) ?_
        exact law_c3 S hX hbl hL hi3 htx hu hv I hl kend
      · refine lv_tableIn (pc := 32) (off := 204) (tgt := 236) hx hb d_L_law_32 (by decide) (by decide) (by decide) (by decide) ?_
        exact law_c4 S hX hbl hL hi3 htx hu hv I hl kend
      · refine lv_tableIn (pc := 32) (off := 217) (tgt := 249) hx hb d_L_law_32 (by decide) (by decide) (by decide) (by decide) ?_
        exact law_c5 S hX hbl hL hi3 htx hu hv I hl kend
      · refine lv_tableIn (pc := 32) (off := 230) (tgt := 262) hx hb d_L_law_32 (by decide) (by decide) (by decide) (by decide) ?_
        exact law_c6 S hX hbl hL hi3 htx hu hv I hl kend
      · refine lv_tableIn (pc := 32) (off := 253) (tgt := 285) hx hb d_L_law_32 (by decide) (by decide) (by decide) (by decide) ?_
        exact law_c7 S hX hbl hL hi3 htx hu hv I hl kend
      · refine lv_tableIn (pc := 32) (off := 266) (tgt := 298) hx hb d_L_law_32 (by decide) (by decide) (by decide) (by decide) ?_
        exact law_c8 S hX hbl hL hi3 htx hu hv I hl kend
      · refine lv_tableIn (pc := 32) (off := 289) (tgt := 321) hx hb d_L_law_32 (by decide) (by decide) (by decide) (by decide) ?_
        exact law_c9 S hX hbl hL hi3 htx hu hv I hl kend
      · refine lv_tableIn (pc := 32) (off := 312) (tgt := 344) hx hb d_L_law_32 (by decide) (by decide) (by decide) (by decide) ?_
        exact law_c10 S hX hbl hL hi3 htx hu hv I hl kend
      · refine lv_tableIn (pc := 32) (off := 335) (tgt := 367) hx hb d_L_law_32 (by decide) (by decide) (by decide) (by decide) ?_
        exact law_c11 S hX hbl hL hi3 htx hu hv I hl kend
      · refine lv_tableIn (pc := 32) (off := 358) (tgt := 390) hx hb d_L_law_32 (by decide) (by decide) (by decide) (by decide) ?_
        exact law_c12 S hX hbl hL hi3 htx hu hv I hl kend
      · refine lv_tableIn (pc := 32) (off := 381) (tgt := 413) hx hb d_L_law_32 (by decide) (by decide) (by decide) (by decide) ?_
        exact law_c13 S hX hbl hL hi3 htx hu hv I hl kend
      · refine lv_tableIn (pc := 32) (off := 394) (tgt := 426) hx hb d_L_law_32 (by decide) (by decide) (by decide) (by decide) ?_
        exact law_c14 S hX hbl hL hi3 htx hu hv I hl kend
      · refine lv_tableIn (pc := 32) (off := 427) (tgt := 459) hx hb d_L_law_32 (by decide) (by decide) (by decide) (by decide) ?_
        exact law_c15 S hX hbl hL hi3 htx hu hv I hl kend
      · refine lv_tableIn (pc := 32) (off := 440) (tgt := 472) hx hb d_L_law_32 (by decide) (by decide) (by decide) (by decide) ?_
        exact law_c16 S hX hbl hL hi3 htx hu hv I hl kend
      · refine lv_tableIn (pc := 32) (off := 453) (tgt := 485) hx hb d_L_law_32 (by decide) (by decide) (by decide) (by decide) ?_
        exact law_c17 S hX hbl hL hi3 htx hu hv I hl kend
      · refine lv_tableIn (pc := 32) (off := 486) (tgt := 518) hx hb d_L_law_32 (by decide) (by decide) (by decide) (by decide) ?_
        exact law_c18 S hX hbl hL hi3 htx hu hv I hl kend
      · refine lv_tableOut (pc := 32) (tgt := 541) hx hb d_L_law_32 (Or.inr (by rw [nI_toInt (by omega)]; omega)) (by decide) ?_
        exact kend T n u v H locs htx hu hv I
end
section
set_option maxHeartbeats 4000000 in
set_option maxRecDepth 20000 in
/-- from the entry, for every script of at most 1536 ints, the law comes to its end with true -/
theorem whole_start {p : Program} {e : Env} {s : State} {m : MethodId} {below : List Frame} {meth : Method} {c : Code} (l : Launch) {b L : Nat} {xs : Nat → Int32} (hL : L ≤ 1536) (C0 : lw_At p s m meth c b L xs) : W p l e room_1 s m #[Value.ref b] below meth c s.heap [] 0 0 (lw_Z below #[Value.ref b] s) (entryFrame m ([Value.ref b] : List Value).toArray 4) := by
  obtain ⟨hx, hb, hr, hml, hown, hts0, hX, hbl, hlocks, hgv⟩ := id C0
  have hts : ∀ w ∈ lw_gt, w.before #[Value.ref b] s = true := fun w hw => hts0 w (lw_sub w hw)
  have S : CallFix p m c code 4 s #[Value.ref b] lw_gt R_law := ⟨hx, hb, hml, hown, hts⟩
  have hA : ∀ q : Nat, s.heap.size ≤ q → (fun q : Nat => s.heap.size ≤ q) q := fun _ h => h
  obtain ⟨c0, iS0, hKn0⟩ := u_known (C := R_X) (T := F_X) (N := 8) (n := 8) hts i_X (hts _ it_X)
  obtain ⟨c1, iS1, hKn1⟩ := u_known (C := R_M) (T := F_M) (N := 7) (n := 7) hts i_M (hts _ it_M)
  obtain ⟨dC, dI, hKc⟩ : ∃ (dC : Nat → ClassId) (dI : Nat → Nat → Nat), ∀ (k : Nat) (q : vw_C), classes[k]? = some q → u_Kn s q.1 q.2.1 q.2.2 (dC k) (dI k) := by
    refine ⟨fun k => if k = 0 then c0 else c1, fun k => if k = 0 then iS0 else iS1, ?_⟩
    intro k q hq
    match k, hq with
    | 0, hq => cases hq; exact hKn0
    | 1, hq => cases hq; exact hKn1
    | k + 2, hq => simp [classes] at hq
  have hS : va_S (fun q : Nat => s.heap.size ≤ q) s.heap s.heap [] := va_S.rf
  have hK : va_K (dC, dI) classes [] s := ⟨hKc, fun k q h => by simp at h⟩
  have hP : va_P (dC, dI) classes [] s.heap := fun k q h => by simp at h
  have hD : va_D (fun q : Nat => s.heap.size ≤ q) [] := ⟨fun i j p q h => by simp at h, fun k q h => by simp at h⟩
  have hl := lv_entry ([.ref b]) (n := 4) (Nat.le_of_ble_eq_true rfl)
  rw [lg_entry_eq]
  generalize (lg_sl ([.ref b]) ++ List.replicate (4 - (lg_sl ([.ref b])).length) Slot.unset).toArray = ls at hl ⊢
  have hl : lv_has ls 4 [(0, .ref b)] := hl
  refine va_new (pc := 0) (ci := 0) (fs := [.null, .null, .null, .null, .null, .int (nI 0), .int (nI 0), .int (nI 0)]) (C := R_X) (T := F_X) (N := 8) hx hb hts i_X t_X t_X_ok hown (hts _ cl_X) (hts _ it_X) (hts _ ni_X) hK hP hD hS hA rfl (fun j hj => by rcases (show j = 0 ∨ j = 1 ∨ j = 2 ∨ j = 3 ∨ j = 4 ∨ j = 5 ∨ j = 6 ∨ j = 7 by omega) with rfl | rfl | rfl | rfl | rfl | rfl | rfl | rfl <;> rfl) (Nat.le_of_ble_eq_true rfl) (Nat.le_of_ble_eq_true rfl) d_L_law_0 (fun qx H hP hD hS => ?_)
  have hP : va_P (dC, dI) classes [(qx, .inr (0, [.null, .null, .null, .null, .null, .int (nI 0), .int (nI 0), .int (nI 0)]))] H := hP
  have hD : va_D (fun q : Nat => s.heap.size ≤ q) [(qx, .inr (0, [.null, .null, .null, .null, .null, .int (nI 0), .int (nI 0), .int (nI 0)]))] := hD
  refine W.widen (k := 1) (n := 8) (Nat.le_of_ble_eq_true rfl) (Nat.le_of_ble_eq_true rfl) ?_
  refine lv_dup (pc := 3) hx hb d_L_law_3 rfl ?_
  have hFc := va_free (wc := [(qx, .inr (0, [.null, .null, .null, .null, .null, .int (nI 0), .int (nI 0), .int (nI 0)]))]) hD hS hA [0] rfl
  have hPc := hP
  have hDc := hD
  have hKe := hK
  refine va_callv (va_runI (As := []) (rest := [.ref qx]) S (c_X_init l dC dI qx H.size) (cwI 0 hts ?gdX rfl rfl rfl (hts _ ni_X) (hts _ li_X_init) (hts _ ii_X_init) rfl (by decide +kernel) ⟨Nat.le_of_ble_eq_true rfl, Nat.le_of_ble_eq_true rfl⟩) ⟨fun a U g mk q => by
    obtain ⟨q0, q1, qP, qK, qD⟩ := q
    exact ⟨q0, q1, qP, va_K.moved (u := U) (U := U.calling g mk a) (Vm.Alike.refl U.vm) qK, qD⟩, fun U hU hW => ⟨rfl, by rw [hU], by rw [hU]; exact hPc, va_K.moved hW.alike hKe, hDc.weaken (fun _ _ _ _ => trivial)⟩⟩ rfl rfl hl.1 rfl (lv_room (Nat.le_of_ble_eq_true rfl)) d_L_law_4 ⟨Nat.le_of_ble_eq_true rfl, Nat.le_of_ble_eq_true rfl⟩) hS (fun q _ h => hFc q h) hFc ?kkX
  case gdX =>
    intro w hw
    have hg : w ∈ lw_gt := by
      rcases List.mem_cons.mp hw with rfl | hw
      · exact ci_X_init
      · exact hw
    exact ⟨hg, good_of_word (lw_good w hg)⟩
  intro u t H1 locs ht hvm hw hB hz1 hk1 hS
  obtain ⟨cA, a, ha0, hP1, hK1, hD1⟩ := hB
  rw [ht] at hP1
  have hK1 := va_K.moved hvm.symm hK1
  obtain ⟨hP, hD⟩ := va_join (wr := []) (w1 := X_w cA a X_0) hP hD [0] [] rfl rfl (by decide) (by decide) hk1 hFc hP1 hD1
  have hP : va_P (dC, dI) classes (X_w cA a X_0) H1 := hP
  have hD : va_D (fun q : Nat => s.heap.size ≤ q) (X_w cA a X_0) := hD
  have hK : va_K (dC, dI) classes [(cA, .int)] s := hK1
  refine W.widen (k := 6) (n := 405) (Nat.le_of_ble_eq_true rfl) (Nat.le_of_ble_eq_true rfl) ?_
  rw [← ha0]
  refine lv_astore_n (pc := 7) (lv' := [(1, .ref (a 0)), (0, .ref b)]) hx hb d_L_law_7 rfl hl (by decide) rfl (fun ls hl => ?_)
  refine va_new (pc := 8) (ci := 1) (fs := [.int (nI 0), .null, .null, .int (nI 0), .null, .null, .null]) (C := R_M) (T := F_M) (N := 7) hx hb hts i_M t_M t_M_ok hown (hts _ cl_M) (hts _ it_M) (hts _ ni_M) hK hP hD hS hA rfl (fun j hj => by rcases (show j = 0 ∨ j = 1 ∨ j = 2 ∨ j = 3 ∨ j = 4 ∨ j = 5 ∨ j = 6 by omega) with rfl | rfl | rfl | rfl | rfl | rfl | rfl <;> rfl) (Nat.le_of_ble_eq_true rfl) (Nat.le_of_ble_eq_true rfl) d_L_law_8 (fun qm H hP hD hS => ?_)
  have hP : va_P (dC, dI) classes (X_w cA a X_0 ++ [(qm, .inr (1, [.int (nI 0), .null, .null, .int (nI 0), .null, .null, .null]))]) H := hP
  have hD : va_D (fun q : Nat => s.heap.size ≤ q) (X_w cA a X_0 ++ [(qm, .inr (1, [.int (nI 0), .null, .null, .int (nI 0), .null, .null, .null]))]) := hD
  refine W.widen (k := 7) (n := 412) (Nat.le_of_ble_eq_true rfl) (Nat.le_of_ble_eq_true rfl) ?_
  refine lv_dup (pc := 11) hx hb d_L_law_11 rfl ?_
  have hPc := hP.sub (ws' := [(qm, .inr (1, [.int (nI 0), .null, .null, .int (nI 0), .null, .null, .null]))]) [6] rfl
  have hDc := hD.sub (ws' := [(qm, .inr (1, [.int (nI 0), .null, .null, .int (nI 0), .null, .null, .null]))]) [6] (by decide) rfl
  have hKe := hK.sub (tys' := []) [] rfl
  have hFc := va_free (wc := [(qm, .inr (1, [.int (nI 0), .null, .null, .int (nI 0), .null, .null, .null]))]) hD hS hA [6] rfl
  refine va_callv (va_runI (As := []) (rest := [.ref qm]) S (c_M_init l dC dI qm H.size) (cwI 0 hts ?gdM rfl rfl rfl (hts _ ni_M) (hts _ li_M_init) (hts _ ii_M_init) rfl (by decide +kernel) ⟨Nat.le_of_ble_eq_true rfl, Nat.le_of_ble_eq_true rfl⟩) ⟨fun a U g mk q => by
    obtain ⟨q0, q1, qP, qK, qD⟩ := q
    exact ⟨q0, q1, qP, va_K.moved (u := U) (U := U.calling g mk a) (Vm.Alike.refl U.vm) qK, qD⟩, fun U hU hW => ⟨rfl, by rw [hU], by rw [hU]; exact hPc, va_K.moved hW.alike hKe, hDc.weaken (fun _ _ _ _ => trivial)⟩⟩ rfl rfl hl.1 rfl (lv_room (Nat.le_of_ble_eq_true rfl)) d_L_law_12 ⟨Nat.le_of_ble_eq_true rfl, Nat.le_of_ble_eq_true rfl⟩) hS (fun q _ h => hFc q h) hFc ?kkM
  case gdM =>
    intro w hw
    have hg : w ∈ lw_gt := by
      rcases List.mem_cons.mp hw with rfl | hw
      · exact ci_M_init
      · exact hw
    exact ⟨hg, good_of_word (lw_good w hg)⟩
  intro u t H1 locs ht hvm hw hB hz1 hk1 hS
  obtain ⟨cB, a', ha0, hP1, hK1, hD1⟩ := hB
  rw [ht] at hP1
  have hK1 := va_K.moved hvm.symm hK1
  obtain rfl : cA = cB := one_arr (hK.app hK1) (i := 0) (j := 1) rfl rfl
  obtain ⟨hP, hD⟩ := va_join (wr := X_w cA a X_0) (w1 := M_w cA a' M_0) hP hD [6] [0, 1, 2, 3, 4, 5] rfl rfl (by decide) (by decide) hk1 hFc hP1 hD1
  refine W.widen (k := 12) (n := 796) (Nat.le_of_ble_eq_true rfl) (Nat.le_of_ble_eq_true rfl) ?_
  rw [← ha0]
  refine lv_astore_n (pc := 15) (lv' := [(2, .ref (a' 0)), (1, .ref (a 0)), (0, .ref b)]) hx hb d_L_law_15 rfl hl (by decide) rfl (fun ls hl => ?_)
  refine nr_iconst (pc := 16) hx hb 0 rfl d_L_law_16 ?_
  refine lv_istore_n (pc := 17) (lv' := [(3, .int (nI 0)), (2, .ref (a' 0)), (1, .ref (a 0)), (0, .ref b)]) hx hb d_L_law_17 rfl hl (by decide) rfl (fun ls hl => ?_)
  exact law_loop hL C0 S (L + 1) 0 (Nat.zero_le L) (by omega) (fun _ => 0) 0 X_0 M_0 H1 locs ⟨fun _ => Nat.zero_le _, Nat.zero_le _⟩ ⟨_, _, _, _, _, _, rfl, Or.inl rfl⟩ ⟨_, _, _, _, _, rfl⟩ ⟨hP, hD, hS, hK⟩ ls hl
set_option maxHeartbeats 4000000 in
theorem lw_walk (l : Launch) (b : Addr) (xs : List Int32) : MetFree l x (headSpec (Jvm.Cond.code x code maxLocals ret :: tables_1) room_1) (lw_P b xs) (fun _ _ _ _ _ => True) lw_Q := by
  refine MetFree.of_bodyS (code := code) (maxLocals := maxLocals) (ret := ret) (by decide) ?_ ?_
  · intro args s m h hn
    obtain ⟨meth, c, h1, h2, h3, h4, h5, h6, -, -⟩ := Cond.code_spec hn (atoms_spec (ws := Jvm.Cond.code x code maxLocals ret :: tables_1) h _ List.mem_cons_self)
    exact ⟨meth, c, h1, h2, h3, h4, h5, h6⟩
  · intro p e s m args below meth c s₁ B hml0 hP _
    obtain ⟨rfl, hx, hbd, hgv⟩ := hP
    obtain ⟨scr, harrAt, hlist, hof, hsmall⟩ := hx
    obtain ⟨hcb, hkn, -, -⟩ := State.arrayAt?_spec harrAt
    have hown : s.vm.findClass R_law = some m.cls := findClass_of_methodNamed B.named
    have hts0 : ∀ c ∈ (Jvm.Cond.code x code maxLocals ret :: tables_1), c.before #[Value.ref b] s = true := atoms_spec (ws := Jvm.Cond.code x code maxLocals ret :: tables_1) B.pre
    have hts : ∀ w ∈ lw_tbl, w.before #[Value.ref b] s = true := k2_hts_sels lw_privs (fun w hw => hts0 w (List.mem_cons_of_mem _ hw)) lw_privs_ok
    have hml : c.maxLocals = 4 := B.maxLocals_eq (hts0 _ List.mem_cons_self)
    have X₀ : Stand p l e room_1 s m #[Value.ref b] below meth c s₁ [] 0 0 := Stand.of_body B
    have hh0 : s₁.heap = s.heap := by rw [B.state]; rfl
    have hsz : scr.slots.size = xs.length := by rw [← Array.length_toList, hlist, List.length_map]
    have hval : ∀ j : Nat, j < xs.length → scr.slots[j]? = some (.int (xs.getD j 0)) := fun j hj => by
      rw [← Array.getElem?_toList, hlist]
      simp [hj]
    have hbl : b < s.heap.size := (Array.getElem?_eq_some_iff.mp hcb).1
    have hX : va_X b xs.length (fun j => xs.getD j 0) s s.heap := ⟨scr, hcb, hof, hkn, hsz, hval⟩
    have K : W p l e room_1 s m #[Value.ref b] below meth c s₁.heap [] 0 0 (lw_Z below #[Value.ref b] s) (entryFrame m ([Value.ref b] : List Value).toArray 4) := by
      rw [hh0]
      exact whole_start l hbd ⟨B.exec, B.bytes, B.returns, hml, hown, hts, hX, hbl, B.notSynchronized, hgv⟩
    obtain ⟨t, a1, o, b1, b2, b3⟩ := K s₁ rfl X₀
    exact ⟨t, o, a1, b1, b2, b3⟩
theorem lw_pre_spec {args : Array Value} {s : State} (h : (Jvm.Cond.and given_1 narrow_1).before args s = true) (hr : rest_1_c.before args s = true) : ∃ (b : Addr) (xs : List Int32), lw_P b xs args s := by
  have hs := flat_of_before _ h
  have hq := flat_of_before _ hr
  have hc : (Cond.count 1).before args s = true := hs _ (by decide +kernel)
  have harr : (Cond.arrayOf (.arg 0) .int).before args s = true := hs _ (by decide +kernel)
  have hle : (Cond.le (.length (.arg 0)) (.int 1536)).before args s = true := hs _ (by decide +kernel)
  have hlen : (Cond.isInt (.length (.arg 0))).before args s = true := hq _ (by decide +kernel)
  have hall : (Cond.all (.arg 0) (.isInt (.elem (.arg 0) (.index 0)))).before args s = true := hq _ (by decide +kernel)
  obtain ⟨b, xs, hb, hx⟩ := State.ints_of_pre rfl harr hlen hall
  have hsm : xs.length < 2 ^ 31 := hx.choose_spec.2.2.2
  have hev : (Term.length (.arg 0)).eval args s none [] s = some (.int xs.length.toInt32) := hx.length_eval hb
  have hv := Cond.le_ints hev (show (Term.int 1536).eval args s none [] s = some (.int 1536) from rfl)
  have hd : xs.length.toInt32 ≤ 1536 := by
    simpa [Cond.before, Cond.holds, hv] using hle
  have hN : xs.length ≤ 1536 := (Int32.ofNat_le_ofNat hsm (by decide)).mp (show Int32.ofNat xs.length ≤ Int32.ofNat 1536 from hd)
  exact ⟨b, xs, Cond.one_arg hc (show args[0]? = some (.ref b) from hb), hx, hN, h⟩
theorem lw_comes (l : Launch) : Comes l x (Jvm.Cond.code x code maxLocals ret :: tables_1) room_1 (fun tb e args s => Calls_1 tb e args s ∧ rest_1 tb e args s ∧ Pre_1 tb e args s)
    (fun _ _ args s o t => lw_Q args s o t) := by
  intro p e ha hc hk s m args below hf hfit hheap happ hpre
  obtain ⟨b, xs, hP⟩ := lw_pre_spec hpre.2.2 hpre.2.1
  obtain ⟨k, o, h1, h2, h3, hQ⟩ := lw_walk l b xs p e ha hc hk s m args below hf ((Spec.applies_iff_loose hf).mp happ).1 hP trivial
  exact ⟨k, o, h1, h2, h3, hQ⟩
theorem lw_frame {s t : State} {o : Outcome} {args : Array Value} (h : Framed s o t [] 12 796) :
    Framed s o t (fieldLocs frame_1_writes args s ++ arrayLocs frame_1_arrays args s ++ staticLocs frame_1_statics s) 12 796 := h
theorem lw_limb (L : Cond) (hL : ∀ (args : Array Value) (s t : State), L.after args s (.returned (some (.int 1))) t = true) :
    ArmFor flags0 classFile x code maxLocals ret World_1 tables_1 room_1 Calls_1 rest_1 Pre_1
      (fun tb e a s o t => postC L tb e a s o t ∧ Framed s o t (fieldLocs frame_1_writes a s ++ arrayLocs frame_1_arrays a s ++ staticLocs frame_1_statics s) 12 796) := by
  intro l _ _ _ p e ha hc hk s m args below hf hfit hheap happ hpre
  obtain ⟨k, o, h1, h2, h3, rfl, hF⟩ := lw_comes l p e ha hc hk s m args below hf hfit hheap happ hpre
  exact ⟨k, _, h1, h2, h3, hL args s _, lw_frame hF⟩
theorem i_vc : Claimed_1_1 ∧ Claimed_1_2 := ⟨lw_limb limb_1_1 (fun args s t => by simp [limb_1_1, Cond.after, Cond.holds, Cond.value]), lw_limb limb_1_2 (fun args s t => Cond.after_iff.mpr (by
  first | (rw [show limb_1_2 = Cond.eq .result (.int 1) from rfl, Cond.eq_ints (x := 1) (y := 1) rfl rfl]; simp; done) | (simp [limb_1_2, Cond.value, Term.eval]; done)))⟩
end
